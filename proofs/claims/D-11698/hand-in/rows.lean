section
/-! lists of small naturals, and the arrays that hold them -/
def ld_at : List Nat → Nat → Option Nat
  | [], _ => none
  | x :: _, 0 => some x
  | _ :: l, n + 1 => ld_at l n
/-- the place of the first v in the list, counted from k -/
def ld_ix : List Nat → Nat → Nat → Option Nat
  | [], _, _ => none
  | x :: l, v, k => if x = v then some k else ld_ix l v (k + 1)
theorem ld_at_lt {l : List Nat} {i v : Nat} (h : ld_at l i = some v) : i < l.length := by
  induction l generalizing i with
  | nil => simp [ld_at] at h
  | cons x l ih =>
    cases i with
    | zero => simp
    | succ i =>
      have := ih (i := i) h
      simp only [List.length_cons]
      omega
theorem ld_at_none {l : List Nat} {i : Nat} (h : ld_at l i = none) : l.length ≤ i := by
  induction l generalizing i with
  | nil => simp
  | cons x l ih =>
    cases i with
    | zero => simp [ld_at] at h
    | succ i =>
      have := ih (i := i) h
      simp only [List.length_cons]
      omega
theorem ld_at_app {l : List Nat} {i v x : Nat} (h : ld_at (l ++ [v]) i = some x) : ld_at l i = some x ∨ (i = l.length ∧ x = v) := by
  induction l generalizing i with
  | nil =>
    cases i with
    | zero =>
      have h' : some v = some x := h
      exact Or.inr ⟨rfl, (Option.some.inj h').symm⟩
    | succ i => simp [ld_at] at h
  | cons y l ih =>
    cases i with
    | zero => exact Or.inl h
    | succ i =>
      rcases ih (i := i) h with h' | ⟨h1, h2⟩
      · exact Or.inl h'
      · refine Or.inr ⟨?_, h2⟩
        simp only [List.length_cons]
        omega
theorem ld_at_set {l : List Nat} {i j v x : Nat} (h : ld_at (l.set i v) j = some x) : (j = i ∧ x = v) ∨ (j ≠ i ∧ ld_at l j = some x) := by
  induction l generalizing i j with
  | nil => simp [ld_at] at h
  | cons y l ih =>
    cases i with
    | zero =>
      cases j with
      | zero =>
        have h' : some v = some x := h
        exact Or.inl ⟨rfl, (Option.some.inj h').symm⟩
      | succ j => exact Or.inr ⟨by omega, h⟩
    | succ i =>
      cases j with
      | zero => exact Or.inr ⟨by omega, h⟩
      | succ j =>
        rcases ih (i := i) (j := j) h with ⟨h1, h2⟩ | ⟨h1, h2⟩
        · exact Or.inl ⟨by omega, h2⟩
        · exact Or.inr ⟨by omega, h2⟩
theorem ld_ix_app (l : List Nat) (w v k : Nat) : ld_ix (l ++ [w]) v k = match ld_ix l v k with | some j => some j | none => if w = v then some (k + l.length) else none := by
  induction l generalizing k with
  | nil => simp [ld_ix]
  | cons y l ih =>
    by_cases e : y = v
    · simp [ld_ix, e]
    · simp only [List.cons_append, ld_ix, if_neg e, ih, List.length_cons]
      rw [show k + 1 + l.length = k + (l.length + 1) by omega]
/-- the first places of the array a hold the list l; at most n of them, and small numbers -/
def ld_R (n : Nat) (a : Nat → Int32) (l : List Nat) : Prop := l.length ≤ n ∧ ∀ i v, ld_at l i = some v → v < 65536 ∧ a i = nI v
theorem ld_R_nil (n : Nat) (a : Nat → Int32) : ld_R n a [] := ⟨Nat.zero_le n, fun i v h => nomatch h⟩
theorem ld_R_app {n v : Nat} {a : Nat → Int32} {l : List Nat} (h : ld_R n a l) (hl : l.length < n) (hv : v < 65536) : ld_R n (upd a l.length (nI v)) (l ++ [v]) := by
  refine ⟨by simp only [List.length_append, List.length_cons, List.length_nil]; omega, fun i x e => ?_⟩
  rcases ld_at_app e with e' | ⟨h1, h2⟩
  · have := ld_at_lt e'
    rw [pk_un (by omega)]
    exact h.2 i x e'
  · rw [h1, h2, pk_us]
    exact ⟨hv, rfl⟩
theorem ld_R_set {n i v : Nat} {a : Nat → Int32} {l : List Nat} (h : ld_R n a l) (hv : v < 65536) : ld_R n (upd a i (nI v)) (l.set i v) := by
  refine ⟨by rw [List.length_set]; exact h.1, fun j x e => ?_⟩
  rcases ld_at_set e with ⟨h1, h2⟩ | ⟨h1, h2⟩
  · rw [h1, h2, pk_us]
    exact ⟨hv, rfl⟩
  · rw [pk_un h1]
    exact h.2 j x h2
theorem ld_R_in {n i v : Nat} {a : Nat → Int32} {l : List Nat} (h : ld_R n a l) (e : ld_at l i = some v) : i < n := Nat.lt_of_lt_of_le (ld_at_lt e) h.1
/-- what an Option chain says -/
theorem ld_b {α β : Type} {o : Option α} {f : α → Option β} {y : β} (h : o.bind f = some y) : ∃ x, o = some x ∧ f x = some y := Option.bind_eq_some_iff.mp h
theorem ld_c {β : Type} {c : Prop} {d : Decidable c} {o : Option β} {y : β} (h : (@ite _ c d o none) = some y) : c ∧ o = some y := by
  by_cases hc : c
  · rw [if_pos hc] at h
    exact ⟨hc, h⟩
  · rw [if_neg hc] at h
    exact nomatch h
/-! ints -/
theorem ld_and (a b : Nat) : nI a &&& nI b = nI (a &&& b) := by
  apply Int32.toBitVec_inj.1
  show BitVec.ofNat 32 a &&& BitVec.ofNat 32 b = BitVec.ofNat 32 (a &&& b)
  apply BitVec.eq_of_getLsbD_eq
  intro i hi
  simp [hi]
theorem ld_or (a b : Nat) : nI a ||| nI b = nI (a ||| b) := by
  apply Int32.toBitVec_inj.1
  show BitVec.ofNat 32 a ||| BitVec.ofNat 32 b = BitVec.ofNat 32 (a ||| b)
  apply BitVec.eq_of_getLsbD_eq
  intro i hi
  simp [hi]
theorem ld_xor (a b : Nat) : nI a ^^^ nI b = nI (a ^^^ b) := by
  apply Int32.toBitVec_inj.1
  show BitVec.ofNat 32 a ^^^ BitVec.ofNat 32 b = BitVec.ofNat 32 (a ^^^ b)
  apply BitVec.eq_of_getLsbD_eq
  intro i hi
  simp [hi]
theorem ld_sl : ∀ n, n < 32 → ((nI n &&& 31).toBitVec.smod 32).toNat = n := by decide +kernel
theorem ld_su : ∀ n, n < 32 → (((nI n).toUInt32 &&& Int32.toUInt32 31).toBitVec % 32).toNat = n := by decide +kernel
theorem ld_an1 {n : Nat} (h : n < 2 ^ 32) : nI n &&& 1 = nI (n % 2) := pk_andN h 1 (by decide)
theorem ld_of (x : Int32) : ∃ n, n < 2 ^ 32 ∧ x = nI n := ⟨x.toBitVec.toNat, x.toBitVec.isLt, Int32.toBitVec_inj.mp (BitVec.eq_of_toNat_eq (pk_tn x.toBitVec.isLt).symm)⟩
theorem ld_two (s : Nat) : 2 * nI s = nI (2 * s) := pk_mul 2 s
theorem ld_2p (s t : Nat) : 2 * nI s + nI t = nI (2 * s + t) := by rw [ld_two, nI_add]
theorem ld_7p (s t : Nat) : 7 * nI s + nI t = nI (7 * s + t) := by rw [show 7 * nI s = nI (7 * s) from pk_mul 7 s, nI_add]
/-- one letter of a word -/
theorem ld_letter {w k : Nat} (hw : w < 2 ^ 32) (hk : k < 32) : (((nI w).toUInt32 >>> ((nI k).toUInt32 &&& Int32.toUInt32 31)).toInt32 &&& 1) = nI ((w >>> k) % 2) := by
  rw [pk_ushrN hw (nI k) k (ld_su k hk), ld_an1 (Nat.lt_of_le_of_lt (Nat.div_le_self _ _) hw), Nat.shiftRight_eq_div_pow]
theorem ld_place {w k s : Nat} (hw : w < 2 ^ 32) (hk : k < 32) : 2 * nI s + (((nI w).toUInt32 >>> ((nI k).toUInt32 &&& Int32.toUInt32 31)).toInt32 &&& 1) = nI (2 * s + (w >>> k) % 2) := by
  rw [ld_letter hw hk, ld_2p]
theorem ld_m1 (x : Int32) : x - 1 = x + (-1) := by grind
theorem ld_shl1 {n : Nat} (hn : n < 31) : (1 : Int32) <<< (nI n &&& 31) = nI (2 ^ n) := by
  have h : nI 1 <<< (nI n &&& 31) = nI (1 * 2 ^ n) := pk_shlN (nI n &&& 31) n (ld_sl n (by omega)) (by rw [Nat.one_mul]; exact Nat.pow_lt_pow_right (by decide) (by omega))
  rw [Nat.one_mul] at h
  exact h
theorem ld_mask {n : Nat} (hn : n < 31) : ((1 : Int32) <<< (nI n &&& 31)) - 1 = nI (2 ^ n - 1) := by
  rw [ld_shl1 hn]
  exact pk_sub (a := 2 ^ n) (b := 1) (Nat.two_pow_pos n)
theorem ld_log {w k : Nat} (h : w < 2 ^ k) (hk : 0 < k) : w.log2 < k := by
  by_cases e : w = 0
  · rw [e, Nat.log2_zero]
    exact hk
  · exact (Nat.log2_lt e).mpr h
theorem ld_in {i n : Nat} (h : i < n) (hn : n < 2 ^ 31 := by decide) : vp_in (nI i) n := vp_in_nI h hn
end
section
/-! the model: what the class computes, over lists of naturals; none where a bound fails -/
/-- the state that c letters of w lead to from s, the first of them letter hi - 1 -/
def ld_walk (N : List Nat) (w : Nat) : Nat → Nat → Nat → Option Nat
  | 0, _, s => some s
  | c + 1, hi, s => (ld_at N (2 * s + (w >>> (hi - 1)) % 2)).bind fun t => ld_walk N w c (hi - 1) t
def ld_good (H G : List Nat) (w : Nat) : Option Nat := if w < 65536 then (ld_walk H w w.log2 w.log2 0).bind fun s => ld_at G s else none
def ld_join (w e : Nat) : Nat := (w * 2 ^ e.log2) ||| (e &&& (2 ^ e.log2 - 1))
def ld_rest (w m : Nat) : Nat := 2 ^ m ||| (w &&& (2 ^ m - 1))
/-- answersOf, over the endings that are left, their number e, the bits so far -/
def ld_ans (H G : List Nat) (w : Nat) : List Nat → Nat → Nat → Option Nat
  | [], _, b => if b < 65536 then some b else none
  | x :: l, e, b => (ld_good H G (ld_join w x)).bind fun g => ld_ans H G w l (e + 1) (if g = 0 then b else b ||| 2 ^ e)
def ld_fill (H G E : List Nat) : List Nat → List Nat → Option (List Nat)
  | [], A => some A
  | b :: l, A => (ld_ans H G b E 0 0).bind fun x => ld_fill H G E l (A ++ [x])
/-- one letter more behind a row -/
def ld_row (H G E : List Nat) (w : Nat) (B A N : List Nat) : Option (List Nat × List Nat × List Nat) :=
  (ld_ans H G w E 0 0).bind fun x => match ld_ix A x 0 with
    | some q => some (B, A, N ++ [q])
    | none => if w < 65536 ∧ B.length < 7 then some (B ++ [w], A ++ [x], N ++ [B.length]) else none
def ld_close (H G E : List Nat) : Nat → Nat → List Nat → List Nat → List Nat → Option (List Nat × List Nat × List Nat)
  | 0, _, _, _, _ => none
  | f + 1, r, B, A, N => match ld_at B r with
    | none => some (B, A, N)
    | some b => (ld_row H G E (2 * b) B A N).bind fun S => (ld_row H G E (2 * b + 1) S.1 S.2.1 S.2.2).bind fun T => ld_close H G E f (r + 1) T.1 T.2.1 T.2.2
def ld_push (p w : Nat) (Q W : List Nat) : Option (List Nat × List Nat) :=
  if p < 49 then match ld_ix Q p 0 with
    | some _ => some (Q, W)
    | none => if w < 65536 ∧ Q.length < 49 then some (Q ++ [p], W ++ [w]) else none
  else none
/-- a search through pairs: the words that tell (A, N) from (T, M) -/
def ld_bfs (A T N M : List Nat) : Nat → Nat → List Nat → List Nat → Option Nat
  | 0, _, _, _ => none
  | f + 1, k, Q, W => match ld_at Q k with
    | none => some 0
    | some p => (ld_at W k).bind fun w => (ld_at A (p / 7)).bind fun a => (ld_at T (p % 7)).bind fun t =>
      if a % 2 = t % 2 then
        (ld_at N (2 * (p / 7))).bind fun x => (ld_at M (2 * (p % 7))).bind fun y => (ld_push (7 * x + y) (2 * w) Q W).bind fun S =>
        (ld_at N (2 * (p / 7) + 1)).bind fun x' => (ld_at M (2 * (p % 7) + 1)).bind fun y' => (ld_push (7 * x' + y') (2 * w + 1) S.1 S.2).bind fun S' =>
        ld_bfs A T N M f (k + 1) S'.1 S'.2
      else some w
/-- addEnding: the ending that is found, from the letter k on, c letters left -/
def ld_add (H G N B : List Nat) (w n t : Nat) : Nat → Nat → Option Nat
  | 0, _ => none
  | c + 1, k => (ld_walk N w k n 0).bind fun r => (ld_at B r).bind fun b => if ld_rest w (n - k) < 65536 then
      (ld_good H G (ld_join b (ld_rest w (n - k)))).bind fun g => if g = t then ld_add H G N B w n t c (k + 1) else some (ld_rest w (n - k))
    else none
def ld_kd (N : List Nat) (r w : Nat) (K F : List Nat) : Option (List Nat × List Nat) :=
  (ld_at N r).bind fun x => if x < 7 then match ld_ix K x 0 with
    | some _ => some (K, F)
    | none => if w < 65536 ∧ K.length < 7 then some (K ++ [x], F ++ [w]) else none
  else none
def ld_ord (N : List Nat) : Nat → Nat → List Nat → List Nat → Option (List Nat × List Nat)
  | 0, _, _, _ => none
  | f + 1, k, K, F => match ld_at K k with
    | none => some (K, F)
    | some r => (ld_at F k).bind fun w => (ld_kd N (2 * r) (2 * w) K F).bind fun S => (ld_kd N (2 * r + 1) (2 * w + 1) S.1 S.2).bind fun T => ld_ord N f (k + 1) T.1 T.2
/-- the rounds of learn: rows, answers, guess, row of kind, first words -/
def ld_rounds (H G : List Nat) : Nat → List Nat → List Nat → Option (Nat × List Nat × List Nat × List Nat × List Nat)
  | 0, _, _ => none
  | f + 1, B, E => (ld_fill H G E B []).bind fun A => (ld_close H G E 8 0 B A []).bind fun S => (ld_bfs S.2.1 G S.2.2 H 50 0 [0] [1]).bind fun w =>
    if w = 0 then (ld_ord S.2.2 8 0 [0] [1]).bind fun R => some (S.1.length, S.2.1, S.2.2, R.1, R.2)
    else (ld_good H G w).bind fun t => (ld_add H G S.2.2 S.1 w w.log2 t w.log2 1).bind fun e => if E.length < 10 then ld_rounds H G f S.1 (E ++ [e]) else none
def ld_learn (H G : List Nat) : Option (Nat × List Nat × List Nat × List Nat × List Nat) := ld_rounds H G 9 [1] [1]
/-! tables, by evaluation -/
def ld_H : List Nat := [1, 0, 3, 2, 3, 5, 1, 2, 4, 4, 1, 0, 6, 6]
def ld_G : List Nat := [0, 0, 1, 0, 0, 0, 0]
def ld_G2 : List Nat := [0, 0, 1, 1, 0, 0, 0]
theorem ld_t1 : ld_learn ld_H ld_G = some (3, [0, 2, 1], [1, 0, 1, 2, 1, 0], [0, 1, 2], [1, 2, 5]) := by decide +kernel
theorem ld_t2 : ld_learn ld_H ld_G2 = some (4, [0, 2, 1, 3], [1, 0, 2, 3, 1, 3, 2, 0], [0, 1, 2, 3], [1, 2, 4, 5]) := by decide +kernel
/-- what the law asks of the last machine -/
def ld_fin (H G : List Nat) : Bool := match ld_learn H G with
  | none => false
  | some T => match ld_at T.2.2.2.2 (T.1 - 1) with
    | none => false
    | some f => match ld_walk T.2.2.1 f f.log2 f.log2 0 with
      | none => false
      | some r => decide (1 ≤ T.1 ∧ T.1 ≤ 7 ∧ T.1 ≤ f ∧ f ≤ 4095 ∧ r < 7 ∧ ld_ix T.2.2.2.1 r 0 = some (T.1 - 1) ∧ ld_ix T.2.2.2.1 0 0 = some 0)
theorem ld_tf : (List.range 7).all (fun f => (List.range 2).all (fun l => (List.range 7).all (fun t => ld_fin (ld_H.set (2 * f + l) t) ld_G2))) = true := by decide +kernel
def ld_X (w : Nat) : Nat := if w = 1 then 0 else if w ≤ 3 then 0 else if w % 4 = 1 then 2 else 0
theorem ld_tw : (List.range 2048).all (fun m => decide (ld_walk [1, 0, 1, 2, 1, 0] (2 * m + 1) (2 * m + 1).log2 (2 * m + 1).log2 0 = some (ld_X (2 * m + 1)) ∧ ld_good ld_H ld_G (2 * m + 1) = some (if ld_X (2 * m + 1) = 2 then 1 else 0))) = true := by decide +kernel
end
section
/-! walks: words, answers, rows -/
/-- the arrays hold the hidden machine -/
def ld_M (H G : List Nat) (a1 a2 : Nat → Int32) : Prop := ld_R 14 a1 H ∧ ld_R 7 a2 G ∧ ∀ i v, ld_at G i = some v → v ≤ 1
theorem ld_nar {g : Nat} (h : g ≤ 1) : narrow .boolean (.int (nI g)) = .int (nI g) := by
  have : g = 0 ∨ g = 1 := by omega
  rcases this with rfl | rfl <;> rfl
theorem ld_ix_lt {l : List Nat} {v k j : Nat} (h : ld_ix l v k = some j) : k ≤ j ∧ j < k + l.length := by
  induction l generalizing k with
  | nil => exact nomatch h
  | cons y l ih =>
    unfold ld_ix at h
    simp only [List.length_cons]
    by_cases e : y = v
    · rw [if_pos e] at h
      have := Option.some.inj h
      omega
    · rw [if_neg e] at h
      have := ih h
      omega
theorem ld_at_ext {l : List Nat} {i v x : Nat} (h : ld_at l i = some v) : ld_at (l ++ [x]) i = some v := by
  induction l generalizing i with
  | nil => exact nomatch h
  | cons y l ih =>
    cases i with
    | zero => exact h
    | succ i => exact ih (i := i) h
theorem ld_len1 (l : List Nat) (x : Nat) : (l ++ [x]).length = l.length + 1 := by simp
theorem ld_good_le {H G : List Nat} {w g : Nat} (h1 : ∀ i v, ld_at G i = some v → v ≤ 1) (e : ld_good H G w = some g) : w < 65536 ∧ g ≤ 1 := by
  unfold ld_good at e
  obtain ⟨hw, e⟩ := ld_c e
  obtain ⟨t, et, eg⟩ := ld_b e
  exact ⟨hw, h1 _ _ eg⟩
theorem ld_ans_lt {H G : List Nat} {w x : Nat} : ∀ (l : List Nat) (e b : Nat), ld_ans H G w l e b = some x → x < 65536 := by
  intro l
  induction l with
  | nil =>
    intro e b h
    unfold ld_ans at h
    obtain ⟨hb, h⟩ := ld_c h
    have := Option.some.inj h
    omega
  | cons y l ih =>
    intro e b h
    unfold ld_ans at h
    obtain ⟨g, _, h⟩ := ld_b h
    exact ih _ _ h
theorem ld_fill_len {H G E A' : List Nat} : ∀ (l A : List Nat), ld_fill H G E l A = some A' → A'.length = A.length + l.length := by
  intro l
  induction l with
  | nil =>
    intro A h
    unfold ld_fill at h
    rw [← Option.some.inj h]
    rfl
  | cons b l ih =>
    intro A h
    unfold ld_fill at h
    obtain ⟨x, _, h⟩ := ld_b h
    have := ih _ h
    rw [ld_len1] at this
    simp only [List.length_cons]
    omega
theorem ld_len {post : Int32 → Prop} {w : Nat} (hw : w < 2 ^ 31) (hp : post (nI w.log2)) : wpX_lengthOf post () (nI w) := by
  have key : ∀ d k, k + d = 31 → 1 ≤ k → wX_lengthOf_4 post (nI w) (d + 1) (nI (min w.log2 (k - 1))) (nI k) := by
    intro d
    induction d with
    | zero =>
      intro k hk h1
      have hl := ld_log hw (by decide)
      rw [show min w.log2 (k - 1) = w.log2 by omega]
      exact br_t (nI_le (a := 31) (by omega) (by omega)) hp
    | succ d ih =>
      intro k hk h1
      have t := ih (k + 1) (by omega) (by omega)
      refine br_f (nI_ge (b := 31) (by omega) (by decide)) ?_
      rw [pk_ushrN (by omega) (nI k) k (ld_su k (by omega))]
      have hb : w / 2 ^ k < 2 ^ 31 := Nat.lt_of_le_of_lt (Nat.div_le_self _ _) hw
      by_cases c : k ≤ w.log2
      · have hne : w ≠ 0 := by
          intro z
          rw [z, Nat.log2_zero] at c
          omega
        have hz : 0 < w / 2 ^ k := Nat.div_pos ((Nat.le_log2 hne).mp c) (Nat.two_pow_pos k)
        rw [show min w.log2 (k + 1 - 1) = k by omega] at t
        exact br_f (nI_ne0 hz hb) (nm_r (nI_1 k) t)
      · have hz : w / 2 ^ k = 0 := by
          apply Nat.div_eq_of_lt
          by_cases z : w = 0
          · rw [z]
            exact Nat.two_pow_pos k
          · exact (Nat.log2_lt z).mp (by omega)
        rw [hz]
        rw [show min w.log2 (k + 1 - 1) = min w.log2 (k - 1) by omega] at t
        exact br_t rfl (nm_r (nI_1 k) t)
  have t := key 30 1 rfl (Nat.le_refl 1)
  rw [show min w.log2 (1 - 1) = 0 by omega] at t
  exact ⟨31, t⟩
theorem ld_joinW {post : Int32 → Prop} {w e : Nat} (hw : w < 131072) (he : e < 65536) (hp : post (nI (ld_join w e))) : wpX_join post () (nI w) (nI e) := by
  have hn : e.log2 < 16 := ld_log he (by decide)
  have h1 : nI w <<< (nI e.log2 &&& 31) = nI (w * 2 ^ e.log2) := pk_shlN _ _ (ld_sl _ (by omega)) (by
    have h2 : 2 ^ e.log2 ≤ 2 ^ 15 := Nat.pow_le_pow_right (by decide) (by omega)
    exact Nat.lt_of_le_of_lt (Nat.mul_le_mul_left w h2) (by omega))
  unfold wpX_join
  refine ld_len (by omega) ?_
  rw [h1, ld_mask (by omega), ld_and, ld_or]
  exact hp
section
variable {fl fr fe fq : Int32} {a1 a2 a3 a4 a5 a6 a7 a8 a9 a10 a11 a12 : Nat → Int32} {H G E : List Nat}
theorem ld_gw9 {post : Int32 → Prop} {w t g : Nat} (hw : w < 2 ^ 32) (hM : ld_M H G a1 a2) (eg : ld_at G t = some g) (hp : post (nI g)) :
    ∀ c s, c < 32 → ld_walk H w c c s = some t → wX_isGoodWord_9 post (nI w) fl fr fe fq a1 a2 a3 a4 a5 a6 a7 a8 a9 a10 a11 a12 (c + 1) (nI s) (nI c + (-1)) := by
  obtain ⟨hH, hG, h1⟩ := hM
  intro c
  induction c with
  | zero =>
    intro s _ e
    have e' : s = t := Option.some.inj e
    subst e'
    have hs := ld_R_in hG eg
    refine br_t (by decide) ⟨ld_in hs, ?_⟩
    rw [nI_clamp (by omega), (hG.2 s g eg).2]
    exact ⟨ld_nar (h1 s g eg), hp⟩
  | succ c ih =>
    intro s hc e
    unfold ld_walk at e
    rw [Nat.add_sub_cancel] at e
    obtain ⟨x, ex, e⟩ := ld_b e
    rw [pk_m1]
    have hi := ld_R_in hH ex
    refine br_f (nI_pos (by omega)) ?_
    rw [ld_place hw (by omega), nI_clamp (by omega), (hH.2 _ _ ex).2]
    exact ⟨ld_in hi, nm_e (nm_e (ih x (by omega) e))⟩
theorem ld_gw {post : Int32 → Prop} {w g : Nat} (hM : ld_M H G a1 a2) (e : ld_good H G w = some g) (hp : post (nI g)) : wpX_isGoodWord post (fl, fr, fe, fq, a1, a2, a3, a4, a5, a6, a7, a8, a9, a10, a11, a12) (nI w) := by
  unfold ld_good at e
  obtain ⟨hw, e⟩ := ld_c e
  obtain ⟨t, et, eg⟩ := ld_b e
  have hn := ld_log (k := 16) hw (by decide)
  unfold wpX_isGoodWord
  refine ld_len (by omega) ?_
  exact nm_r (ld_m1 _) ⟨w.log2 + 1, ld_gw9 (by omega) hM eg hp w.log2 0 (by omega) et⟩
theorem ld_ans4 {post : Int32 → Prop} {w b' : Nat} (hw : w < 131072) (hM : ld_M H G a1 a2) (hE : ld_R 10 a5 E) (hp : post (nI b')) :
    ∀ (l : List Nat) (e b : Nat), (∀ i, ld_at l i = ld_at E (e + i)) → e + l.length = E.length → ld_ans H G w l e b = some b' → wX_answersOf_4 post (nI w) fl fr (nI E.length) fq a1 a2 a3 a4 a5 a6 a7 a8 a9 a10 a11 a12 (l.length + 1) (nI b) (nI e) := by
  have hE10 := hE.1
  intro l
  induction l with
  | nil =>
    intro e b hl hn h
    unfold ld_ans at h
    obtain ⟨hb, h⟩ := ld_c h
    rw [Option.some.inj h]
    simp only [List.length_nil] at hn
    exact br_t (nI_le (by omega) (by omega)) hp
  | cons x l ih =>
    intro e b hl hn h
    unfold ld_ans at h
    obtain ⟨g, eg, h⟩ := ld_b h
    have hg := ld_good_le hM.2.2 eg
    have ex : ld_at E e = some x := (hl 0).symm
    have hx := hE.2 e x ex
    simp only [List.length_cons] at hn
    have hl' : ∀ i, ld_at l i = ld_at E (e + 1 + i) := fun i => by
      rw [show e + 1 + i = e + (i + 1) by omega]
      exact hl (i + 1)
    have t := ih (e + 1) _ hl' (by omega) h
    refine br_f (nI_ge (by omega) (by omega)) ⟨ld_in (by omega), ?_⟩
    rw [nI_clamp (by omega), hx.2]
    refine ld_joinW hw hx.1 (ld_gw hM eg ?_)
    by_cases c : g = 0
    · rw [if_pos c] at t
      rw [c]
      refine br_t rfl (nm_r (e' := nI b) ?_ (nm_r (nI_1 e) t))
      show nI b ||| nI 0 = nI b
      rw [ld_or, Nat.or_zero]
    · rw [if_neg c] at t
      refine br_f (nI_ne0 (by omega) (by omega)) (nm_r (e' := nI (b ||| 2 ^ e)) ?_ (nm_r (nI_1 e) t))
      rw [ld_shl1 (by omega), ld_or]
theorem ld_ansW {post : Int32 → Prop} {w b' : Nat} (hw : w < 131072) (hM : ld_M H G a1 a2) (hE : ld_R 10 a5 E) (e : ld_ans H G w E 0 0 = some b') (hp : post (nI b')) :
    wpX_answersOf post (fl, fr, nI E.length, fq, a1, a2, a3, a4, a5, a6, a7, a8, a9, a10, a11, a12) (nI w) := by
  unfold wpX_answersOf
  exact ⟨E.length + 1, ld_ans4 hw hM hE hp E 0 0 (fun i => by rw [Nat.zero_add]) (Nat.zero_add _) e⟩
theorem ld_fill2 {post : St2 → Prop} {B A' : List Nat} (hM : ld_M H G a1 a2) (hE : ld_R 10 a5 E) (hB : ld_R 7 a3 B)
    (hp : ∀ a4, ld_R 7 a4 A' → post (fl, nI B.length, nI E.length, fq, a1, a2, a3, a4, a5, a6, a7, a8, a9, a10, a11, a12)) :
    ∀ (l A : List Nat) (a4 : Nat → Int32), (∀ i, ld_at l i = ld_at B (A.length + i)) → A.length + l.length = B.length → ld_R 7 a4 A → ld_fill H G E l A = some A' →
      wX_fillRows_2 post fl (nI B.length) (nI E.length) fq (l.length + 1) (nI A.length) a1 a2 a3 a4 a5 a6 a7 a8 a9 a10 a11 a12 := by
  have hB7 := hB.1
  intro l
  induction l with
  | nil =>
    intro A a4 hl hn hA h
    unfold ld_fill at h
    have h' := Option.some.inj h
    subst h'
    simp only [List.length_nil] at hn
    exact br_t (nI_le (by omega) (by omega)) (hp a4 hA)
  | cons b l ih =>
    intro A a4 hl hn hA h
    unfold ld_fill at h
    obtain ⟨x, ex, h⟩ := ld_b h
    have hx := ld_ans_lt _ _ _ ex
    have eb : ld_at B A.length = some b := (hl 0).symm
    have hb := hB.2 _ b eb
    simp only [List.length_cons] at hn
    have hl' : ∀ i, ld_at l i = ld_at B ((A ++ [x]).length + i) := fun i => by
      rw [ld_len1, show A.length + 1 + i = A.length + (i + 1) by omega]
      exact hl (i + 1)
    have t := ih (A ++ [x]) (upd a4 A.length (nI x)) hl' (by rw [ld_len1]; omega) (ld_R_app hA (by omega) hx) h
    rw [ld_len1] at t
    refine br_f (nI_ge (by omega) (by omega)) ⟨ld_in (by omega), ?_⟩
    rw [nI_clamp (by omega), hb.2]
    refine ld_ansW (by omega) hM hE ex ⟨ld_in (by omega), nm_e (nm_r (nI_1 _) t)⟩
theorem ld_fillW {post : St2 → Prop} {B A' : List Nat} (hM : ld_M H G a1 a2) (hE : ld_R 10 a5 E) (hB : ld_R 7 a3 B) (e : ld_fill H G E B [] = some A')
    (hp : ∀ a4, ld_R 7 a4 A' → post (fl, nI B.length, nI E.length, fq, a1, a2, a3, a4, a5, a6, a7, a8, a9, a10, a11, a12)) :
    wpX_fillRows post (fl, nI B.length, nI E.length, fq, a1, a2, a3, a4, a5, a6, a7, a8, a9, a10, a11, a12) := by
  unfold wpX_fillRows
  exact ⟨B.length + 1, ld_fill2 hM hE hB hp B [] a4 (fun i => by rw [List.length_nil, Nat.zero_add]) (Nat.zero_add _) (ld_R_nil 7 a4) e⟩
theorem ld_rw2 {post : Int32 → Prop} {A : List Nat} {x : Nat} (hx : x < 65536) (hA : ld_R 7 a4 A) (hs : ∀ q, ld_ix A x 0 = some q → post (nI q)) (hn : ld_ix A x 0 = none → post (-1)) :
    ∀ (l : List Nat) (k : Nat), (∀ i, ld_at l i = ld_at A (k + i)) → k + l.length = A.length → ld_ix l x k = ld_ix A x 0 → wX_rowWith_2 post (nI x) fl (nI A.length) fe fq a1 a2 a3 a4 a5 a6 a7 a8 a9 a10 a11 a12 (l.length + 1) (nI k) := by
  have hA7 := hA.1
  intro l
  induction l with
  | nil =>
    intro k hl hk e
    simp only [List.length_nil] at hk
    exact br_t (nI_le (by omega) (by omega)) (hn e.symm)
  | cons y l ih =>
    intro k hl hk e
    simp only [List.length_cons] at hk
    have ey : ld_at A k = some y := (hl 0).symm
    have hy := hA.2 k y ey
    have hl' : ∀ i, ld_at l i = ld_at A (k + 1 + i) := fun i => by
      rw [show k + 1 + i = k + (i + 1) by omega]
      exact hl (i + 1)
    have e : (if y = x then some k else ld_ix l x (k + 1)) = ld_ix A x 0 := e
    refine br_f (nI_ge (by omega) (by omega)) ⟨ld_in (by omega), ?_⟩
    rw [nI_clamp (by omega), hy.2]
    refine pk_eq y x (fun z => ?_) (fun z => ?_) rfl rfl (by omega) (by omega)
    · rw [if_pos z] at e
      exact hs k e.symm
    · rw [if_neg z] at e
      exact nm_r (nI_1 k) (ih (k + 1) hl' (by omega) e)
theorem ld_rwW {post : Int32 → Prop} {A : List Nat} {x : Nat} (hx : x < 65536) (hA : ld_R 7 a4 A) (hs : ∀ q, ld_ix A x 0 = some q → post (nI q)) (hn : ld_ix A x 0 = none → post (-1)) :
    wpX_rowWith post (fl, nI A.length, fe, fq, a1, a2, a3, a4, a5, a6, a7, a8, a9, a10, a11, a12) (nI x) := by
  unfold wpX_rowWith
  exact ⟨A.length + 1, ld_rw2 hx hA hs hn A 0 (fun i => by rw [Nat.zero_add]) (Nat.zero_add _) rfl⟩
end
end
section
/-! walks: closeTable -/
/-- rows, answers and guess -/
def ld_T (B A N : List Nat) (m : Nat) (a3 a4 a6 : Nat → Int32) : Prop := ld_R 7 a3 B ∧ ld_R 7 a4 A ∧ ld_R 14 a6 N ∧ A.length = B.length ∧ N.length = m
section
variable {fl fe fq : Int32} {a1 a2 a3 a4 a5 a6 a7 a8 a9 a10 a11 a12 : Nat → Int32} {H G E : List Nat}
theorem ld_cl18 {post : St2 → Prop} {J2 : Int32 → Int32 → (Nat → Int32) → (Nat → Int32) → (Nat → Int32) → (Nat → Int32) → (Nat → Int32) → (Nat → Int32) → (Nat → Int32) → (Nat → Int32) → (Nat → Int32) → (Nat → Int32) → (Nat → Int32) → (Nat → Int32) → Prop}
    {r l b n w : Nat} {B A N : List Nat} {S : List Nat × List Nat × List Nat} (hl : l < 2) (hr : r < 7) (hw : w = 2 * b + l) (hM : ld_M H G a1 a2) (hE : ld_R 10 a5 E) (hT : ld_T B A N (2 * r + l) a3 a4 a6) (eb : ld_at B r = some b) (e : ld_row H G E w B A N = some S)
    (hp : ∀ a3 a4 a6, ld_T S.1 S.2.1 S.2.2 (2 * r + l + 1) a3 a4 a6 → ld_at S.1 r = some b → B.length ≤ S.1.length → wX_closeTable_18 post J2 (nI r) fl (nI E.length) fq n (nI (l + 1)) (nI S.1.length) a1 a2 a3 a4 a5 a6 a7 a8 a9 a10 a11 a12) :
    wX_closeTable_18 post J2 (nI r) fl (nI E.length) fq (n + 1) (nI l) (nI B.length) a1 a2 a3 a4 a5 a6 a7 a8 a9 a10 a11 a12 := by
  obtain ⟨hB, hA, hN, hAB, hNm⟩ := hT
  have hB7 := hB.1
  have hb := hB.2 r b eb
  unfold ld_row at e
  obtain ⟨x, ex, e⟩ := ld_b e
  have hx := ld_ans_lt _ _ _ ex
  subst hw
  have hrw : wpX_rowWith (fun r_8 => (((0 ≤ r_8 → (wX_closeTable_100 post J2 (wX_closeTable_18 post J2 (nI r) fl (nI E.length) fq n) (nI r) (nI l) r_8 fl (nI B.length) (nI E.length) fq a1 a2 a3 a4 a5 a6 a7 a8 a9 a10 a11 a12)) ∧ (¬ 0 ≤ r_8 → (((7 ≤ nI B.length → (wX_closeTable_100 post J2 (wX_closeTable_18 post J2 (nI r) fl (nI E.length) fq n) (nI r) (nI l) r_8 fl (nI B.length) (nI E.length) fq a1 a2 a3 a4 a5 a6 a7 a8 a9 a10 a11 a12)) ∧ (¬ 7 ≤ nI B.length → (vp_in (nI B.length) 7 ∧ ∀ a3_15 : Nat → Int32, a3_15 = upd a3 (nI B.length).toNatClampNeg (nI (2 * b + l)) → (vp_in (nI B.length) 7 ∧ ∀ a4_17 : Nat → Int32, a4_17 = upd a4 (nI B.length).toNatClampNeg (nI x) → (∀ f_18 : Int32, f_18 = nI B.length + 1 → (wX_closeTable_100 post J2 (wX_closeTable_18 post J2 (nI r) fl (nI E.length) fq n) (nI r) (nI l) (nI B.length) fl f_18 (nI E.length) fq a1 a2 a3_15 a4_17 a5 a6 a7 a8 a9 a10 a11 a12))))))))))) (fl, nI B.length, nI E.length, fq, a1, a2, a3, a4, a5, a6, a7, a8, a9, a10, a11, a12) (nI x) := by
    rw [← hAB]
    refine ld_rwW hx hA (fun q hq => ?_) (fun hq => ?_)
    · rw [hq] at e
      have e' := Option.some.inj e
      subst e'
      have hq' := ld_ix_lt hq
      refine br_t (nI_pos' (by omega)) ?_
      unfold wX_closeTable_100
      rw [ld_2p, nI_clamp (by omega), ← hNm, hAB]
      refine ⟨ld_in (by omega), nm_e (nm_r (nI_1 l) (hp _ _ _ ⟨hB, hA, ld_R_app hN (by omega) (by omega), hAB, ?_⟩ eb (Nat.le_refl _)))⟩
      show (N ++ [q]).length = _
      rw [ld_len1, hNm]
    · rw [hq] at e
      obtain ⟨⟨hw, hb7⟩, e⟩ := ld_c e
      have e' := Option.some.inj e
      subst e'
      rw [hAB]
      refine br_f (by decide) (br_f (nI_ge (b := 7) hb7 (by decide)) ⟨ld_in hb7, ?_⟩)
      rw [nI_clamp (by omega)]
      refine nm_e ⟨ld_in hb7, nm_e (nm_r (nI_1 _) ?_)⟩
      unfold wX_closeTable_100
      rw [ld_2p, nI_clamp (by omega), ← hNm]
      have hA' := ld_R_app hA (by omega) hx
      rw [hAB] at hA'
      have t := hp _ _ _ ⟨ld_R_app hB hb7 hw, hA', ld_R_app hN (by omega) (show B.length < 65536 by omega), ?_, ?_⟩ (ld_at_ext eb) (by rw [ld_len1]; omega)
      · rw [ld_len1] at t
        exact ⟨ld_in (by omega), nm_e (nm_r (nI_1 l) t)⟩
      · rw [ld_len1, ld_len1, hAB]
      · rw [ld_len1, hNm]
  refine br_f (nI_ge (b := 2) hl (by decide)) ⟨ld_in hr, ?_⟩
  rw [nI_clamp (by omega), hb.2, ld_2p]
  exact nm_e (ld_ansW (by omega) hM hE ex hrw)
theorem ld_cl2 {post : St2 → Prop} {S : List Nat × List Nat × List Nat} (hM : ld_M H G a1 a2) (hE : ld_R 10 a5 E)
    (hp : ∀ a3 a4 a6, ld_T S.1 S.2.1 S.2.2 (2 * S.1.length) a3 a4 a6 → post (fl, nI S.1.length, nI E.length, fq, a1, a2, a3, a4, a5, a6, a7, a8, a9, a10, a11, a12)) :
    ∀ (f r : Nat) (B A N : List Nat) (a3 a4 a6 : Nat → Int32), r ≤ B.length → ld_T B A N (2 * r) a3 a4 a6 → ld_close H G E f r B A N = some S →
      wX_closeTable_2 post fl (nI E.length) fq f (nI r) (nI B.length) a1 a2 a3 a4 a5 a6 a7 a8 a9 a10 a11 a12 := by
  intro f
  induction f with
  | zero => exact fun r B A N a3 a4 a6 hr hT e => nomatch e
  | succ f ih =>
    intro r B A N a3 a4 a6 hr hT e
    have hB7 := hT.1.1
    unfold ld_close at e
    cases eb : ld_at B r with
    | none =>
      rw [eb] at e
      have e' := Option.some.inj e
      subst e'
      have hr' := ld_at_none eb
      have er : r = B.length := by omega
      subst er
      exact br_t (nI_le (by omega) (by omega)) (hp _ _ _ hT)
    | some b =>
      rw [eb] at e
      obtain ⟨S1, e1, e⟩ := ld_b e
      obtain ⟨S2, e2, e⟩ := ld_b e
      have hr' := ld_at_lt eb
      refine br_f (nI_ge (by omega) (by omega)) (br_f (nI_ge (b := 7) (by omega) (by decide)) ⟨3, ?_⟩)
      refine ld_cl18 (l := 0) (by decide) (by omega) rfl hM hE hT eb e1 (fun a3 a4 a6 hT1 eb1 hl1 => ?_)
      refine ld_cl18 (l := 1) (by decide) (by omega) rfl hM hE hT1 eb1 e2 (fun a3 a4 a6 hT2 eb2 hl2 => ?_)
      exact br_t (nI_le (a := 2) (b := 1 + 1) (by decide) (by decide)) (nm_r (nI_1 r) (ih (r + 1) _ _ _ a3 a4 a6 (by omega) hT2 e))
theorem ld_closeW {post : St2 → Prop} {B A : List Nat} {S : List Nat × List Nat × List Nat} (hM : ld_M H G a1 a2) (hE : ld_R 10 a5 E) (hB : ld_R 7 a3 B) (hA : ld_R 7 a4 A) (hAB : A.length = B.length) (e : ld_close H G E 8 0 B A [] = some S)
    (hp : ∀ a3 a4 a6, ld_T S.1 S.2.1 S.2.2 (2 * S.1.length) a3 a4 a6 → post (fl, nI S.1.length, nI E.length, fq, a1, a2, a3, a4, a5, a6, a7, a8, a9, a10, a11, a12)) :
    wpX_closeTable post (fl, nI B.length, nI E.length, fq, a1, a2, a3, a4, a5, a6, a7, a8, a9, a10, a11, a12) := by
  unfold wpX_closeTable
  exact ⟨8, ld_cl2 hM hE hp 8 0 B A [] a3 a4 a6 (Nat.zero_le _) ⟨hB, hA, ld_R_nil 14 a6, hAB, rfl⟩ e⟩
end
end
section
/-! walks: searches through pairs -/
def ld_Q (q : Int32) (a7 a8 a9 : Nat → Int32) (Q W : List Nat) : Prop :=
  q = nI Q.length ∧ W.length = Q.length ∧ ld_R 49 a8 Q ∧ ld_R 49 a9 W ∧ (∀ i p, ld_at Q i = some p → p < 49) ∧ ∀ p, p < 49 → a7 p = match ld_ix Q p 0 with | some _ => 1 | none => 0
theorem ld_push_ok {p w : Nat} {Q W : List Nat} {S : List Nat × List Nat} (e : ld_push p w Q W = some S) : p < 49 ∧ Q.length ≤ S.1.length ∧ ∀ k v, ld_at W k = some v → ld_at S.2 k = some v := by
  unfold ld_push at e
  obtain ⟨hp, e⟩ := ld_c e
  refine ⟨hp, ?_⟩
  cases ei : ld_ix Q p 0 with
  | some j =>
    rw [ei] at e
    have e' := Option.some.inj e
    subst e'
    exact ⟨Nat.le_refl _, fun k v h => h⟩
  | none =>
    rw [ei] at e
    obtain ⟨_, e⟩ := ld_c e
    have e' := Option.some.inj e
    subst e'
    exact ⟨by rw [ld_len1]; omega, fun k v h => ld_at_ext h⟩
section
variable {fl fr fe fq : Int32} {a1 a2 a3 a4 a5 a6 a7 a8 a9 a10 a11 a12 : Nat → Int32} {H G E A N Q W : List Nat}
theorem ld_reach {post : St2 → Prop} {x y w : Nat} {S : List Nat × List Nat} (hQ : ld_Q fq a7 a8 a9 Q W) (e : ld_push (7 * x + y) w Q W = some S)
    (hp : ∀ q a7 a8 a9, ld_Q q a7 a8 a9 S.1 S.2 → post (fl, fr, fe, q, a1, a2, a3, a4, a5, a6, a7, a8, a9, a10, a11, a12)) :
    wpX_reachPair post (fl, fr, fe, fq, a1, a2, a3, a4, a5, a6, a7, a8, a9, a10, a11, a12) (nI x) (nI y) (nI w) := by
  obtain ⟨hq, hWQ, h8, h9, h49, h7⟩ := hQ
  unfold ld_push at e
  obtain ⟨hlt, e⟩ := ld_c e
  have h8' := h8.1
  unfold wpX_reachPair
  dsimp only
  rw [ld_7p, nI_clamp (by omega)]
  refine ⟨ld_in hlt, ?_⟩
  have h7p := h7 _ hlt
  cases ei : ld_ix Q (7 * x + y) 0 with
  | some j =>
    rw [ei] at e h7p
    have e' := Option.some.inj e
    subst e'
    rw [h7p]
    exact br_f (show ¬ (1 : Int32) = 0 by decide) (hp _ _ _ _ ⟨hq, hWQ, h8, h9, h49, h7⟩)
  | none =>
    rw [ei] at e h7p
    obtain ⟨⟨hw, hl⟩, e⟩ := ld_c e
    have e' := Option.some.inj e
    subst e'
    rw [h7p, hq, nI_clamp (by omega)]
    refine br_t rfl ⟨ld_in hlt, nm_e ⟨ld_in hl, nm_e ⟨ld_in hl, nm_e (nm_r (nI_1 _) (hp _ _ _ _ ⟨?_, ?_, ld_R_app h8 hl (by omega), ?_, ?_, ?_⟩))⟩⟩⟩
    · rw [ld_len1]
    · rw [ld_len1, ld_len1, hWQ]
    · have h := ld_R_app h9 (by omega) hw
      rw [hWQ] at h
      exact h
    · intro i p hi
      rcases ld_at_app hi with hi | ⟨_, h2⟩
      · exact h49 i p hi
      · omega
    · intro p hp49
      rw [ld_ix_app]
      by_cases c : p = 7 * x + y
      · rw [c, pk_us, ei]
        simp
      · rw [pk_un c, h7 p hp49, if_neg (fun z => c z.symm)]
        cases ld_ix Q p 0 <;> rfl
theorem ld_st2 {post : St2 → Prop} {x y : Nat} (h : 7 * x + y < 49)
    (hp : ∀ q a7 a8 a9, ld_Q q a7 a8 a9 [7 * x + y] [1] → post (fl, fr, fe, q, a1, a2, a3, a4, a5, a6, a7, a8, a9, a10, a11, a12)) :
    ∀ (d k : Nat) (a7 : Nat → Int32), k + d = 49 → (∀ j, j < k → a7 j = 0) → wX_startSearch_2 post (nI x) (nI y) fl fr fe fq (d + 1) (nI k) a1 a2 a3 a4 a5 a6 a7 a8 a9 a10 a11 a12 := by
  intro d
  induction d with
  | zero =>
    intro k a7 hk h7
    refine br_t (nI_le (a := 49) (by omega) (by omega)) ?_
    have e : ld_push (7 * x + y) 1 [] [] = some ([7 * x + y], [1]) := by
      unfold ld_push
      rw [if_pos h]
      rfl
    refine ld_reach (Q := []) (W := []) (w := 1) ⟨rfl, rfl, ld_R_nil 49 a8, ld_R_nil 49 a9, (fun i p hi => nomatch hi), fun p hp49 => h7 p (by omega)⟩ e (fun q a7 a8 a9 hQ => hp q a7 a8 a9 hQ)
  | succ d ih =>
    intro k a7 hk h7
    refine br_f (nI_ge (b := 49) (by omega) (by decide)) ⟨ld_in (by omega), ?_⟩
    rw [nI_clamp (by omega)]
    refine nm_e (nm_r (nI_1 k) (ih (k + 1) _ (by omega) (fun j hj => ?_)))
    by_cases c : j = k
    · rw [c, pk_us]
    · rw [pk_un c]
      exact h7 j (by omega)
theorem ld_startW {post : St2 → Prop} {x y : Nat} (h : 7 * x + y < 49)
    (hp : ∀ q a7 a8 a9, ld_Q q a7 a8 a9 [7 * x + y] [1] → post (fl, fr, fe, q, a1, a2, a3, a4, a5, a6, a7, a8, a9, a10, a11, a12)) :
    wpX_startSearch post (fl, fr, fe, fq, a1, a2, a3, a4, a5, a6, a7, a8, a9, a10, a11, a12) (nI x) (nI y) := by
  unfold wpX_startSearch
  exact ⟨50, ld_st2 h hp 49 0 a7 rfl (fun j hj => absurd hj (by omega))⟩
theorem ld_fw77 {post : Int32 → St2 → Prop} {J8 : Int32 → Int32 → Int32 → Int32 → Int32 → (Nat → Int32) → (Nat → Int32) → (Nat → Int32) → (Nat → Int32) → (Nat → Int32) → (Nat → Int32) → (Nat → Int32) → (Nat → Int32) → (Nat → Int32) → (Nat → Int32) → (Nat → Int32) → (Nat → Int32) → Prop}
    {k x y l w w' n xx yy i j : Nat} {S : List Nat × List Nat} (hl : l < 2) (hi : i = 2 * x + l) (hj : j = 2 * y + l) (hw' : w' = 2 * w + l) (hN : ld_R 14 a6 N) (hH : ld_R 14 a1 H) (ex : ld_at N i = some xx) (ey : ld_at H j = some yy) (hk : k < 49) (eW : ld_at W k = some w)
    (hQ : ld_Q fq a7 a8 a9 Q W) (e : ld_push (7 * xx + yy) w' Q W = some S)
    (hp : ∀ q a7 a8 a9, ld_Q q a7 a8 a9 S.1 S.2 → wX_findWrong_77 post J8 (nI k) (nI x) (nI y) n (nI (l + 1)) fl fr fe q a1 a2 a3 a4 a5 a6 a7 a8 a9 a10 a11 a12) :
    wX_findWrong_77 post J8 (nI k) (nI x) (nI y) (n + 1) (nI l) fl fr fe fq a1 a2 a3 a4 a5 a6 a7 a8 a9 a10 a11 a12 := by
  subst hi hj hw'
  have hx := ld_R_in hN ex
  have hy := ld_R_in hH ey
  refine br_f (nI_ge (b := 2) hl (by decide)) ?_
  rw [ld_2p, ld_2p, nI_clamp (by omega), nI_clamp (by omega), nI_clamp (by omega), (hN.2 _ _ ex).2, (hH.2 _ _ ey).2, (hQ.2.2.2.1.2 _ _ eW).2, ld_2p]
  refine ⟨ld_in hx, ld_in hy, ld_in hk, ld_reach hQ e (fun q a7 a8 a9 hQ' => ?_)⟩
  exact nm_r (nI_1 l) (hp q a7 a8 a9 hQ')
theorem ld_fw8 {post : Int32 → St2 → Prop} {r : Nat} (hM : ld_M H G a1 a2) (hA : ld_R 7 a4 A) (hN : ld_R 14 a6 N)
    (hp : ∀ q a7 a8 a9, post (nI r) (fl, fr, fe, q, a1, a2, a3, a4, a5, a6, a7, a8, a9, a10, a11, a12)) :
    ∀ (f k : Nat) (Q W : List Nat) (fq : Int32) (a7 a8 a9 : Nat → Int32), k ≤ Q.length → ld_Q fq a7 a8 a9 Q W → ld_bfs A G N H f k Q W = some r →
      wX_findWrong_8 post f (nI k) fl fr fe fq a1 a2 a3 a4 a5 a6 a7 a8 a9 a10 a11 a12 := by
  intro f
  induction f with
  | zero => exact fun k Q W fq a7 a8 a9 hk hQ e => nomatch e
  | succ f ih =>
    intro k Q W fq a7 a8 a9 hk hQ e
    have hQ49 := hQ.2.2.1.1
    have hq := hQ.1
    unfold ld_bfs at e
    cases ep : ld_at Q k with
    | none =>
      rw [ep] at e
      have e' := Option.some.inj e
      subst e'
      have hk' := ld_at_none ep
      rw [hq]
      exact br_t (nI_le (by omega) (by omega)) (hp _ _ _ _)
    | some p =>
      rw [ep] at e
      obtain ⟨w, ew, e⟩ := ld_b e
      obtain ⟨a, ea, e⟩ := ld_b e
      obtain ⟨t, et, e⟩ := ld_b e
      have hk' := ld_at_lt ep
      have hp49 := hQ.2.2.2.2.1 k p ep
      have ha := hA.2 _ _ ea
      have ht := hM.2.1.2 _ _ et
      have ht1 := hM.2.2 _ _ et
      have hd := ld_R_in hA ea
      have hm := ld_R_in hM.2.1 et
      have key : wX_findWrong_58 post (wX_findWrong_8 post f) (nI k) (nI (p / 7)) (nI (p % 7)) (nI (a % 2)) fl fr fe fq a1 a2 a3 a4 a5 a6 a7 a8 a9 a10 a11 a12 := by
        unfold wX_findWrong_58
        refine ⟨ld_in hm, ?_⟩
        rw [nI_clamp (by omega), nI_clamp (by omega), ht.2]
        refine pk_eq (a % 2) t (fun z => ?_) (fun z => ?_) rfl rfl (by omega) (by omega)
        · rw [if_pos (by omega)] at e
          obtain ⟨x0, ex0, e⟩ := ld_b e
          obtain ⟨y0, ey0, e⟩ := ld_b e
          obtain ⟨S0, eS0, e⟩ := ld_b e
          obtain ⟨x1, ex1, e⟩ := ld_b e
          obtain ⟨y1, ey1, e⟩ := ld_b e
          obtain ⟨S1, eS1, e⟩ := ld_b e
          have h0 := ld_push_ok eS0
          have h1 := ld_push_ok eS1
          refine ⟨3, ld_fw77 (l := 0) (by decide) rfl rfl rfl hN hM.1 ex0 ey0 (by omega) ew hQ eS0 (fun q a7 a8 a9 hQ0 => ?_)⟩
          refine ld_fw77 (l := 1) (by decide) rfl rfl rfl hN hM.1 ex1 ey1 (by omega) (h0.2.2 _ _ ew) hQ0 eS1 (fun q a7 a8 a9 hQ1 => ?_)
          exact br_t (nI_le (a := 2) (b := 1 + 1) (by decide) (by decide)) (nm_r (nI_1 k) (ih (k + 1) _ _ q a7 a8 a9 (by omega) hQ1 e))
        · rw [if_neg (by omega)] at e
          have e' := Option.some.inj e
          subst e'
          rw [(hQ.2.2.2.1.2 _ _ ew).2]
          exact ⟨ld_in (by omega), hp _ _ _ _⟩
      rw [hq] at *
      refine br_f (nI_ge (by omega) (by omega)) (br_f (nI_ge (b := 49) (by omega) (by decide)) ⟨ld_in (by omega), by decide, ?_⟩)
      rw [nI_clamp (by omega), (hQ.2.2.1.2 _ _ ep).2]
      refine nm_r (pk_div (a := p) (d := 7) (by omega) (by decide) (by decide)) ⟨ld_in (by omega), by decide, nm_r (pk_rem (a := p) (d := 7) (by omega) (by decide) (by decide)) ⟨ld_in hd, ?_⟩⟩
      rw [nI_clamp (by omega), ha.2, ld_an1 (by omega)]
      by_cases c : a % 2 = 0
      · rw [c] at key ⊢
        exact br_t rfl key
      · have c' : a % 2 = 1 := by omega
        rw [c'] at key ⊢
        exact br_f (by decide) key
theorem ld_fwW {post : Int32 → St2 → Prop} {r : Nat} (hM : ld_M H G a1 a2) (hA : ld_R 7 a4 A) (hN : ld_R 14 a6 N) (e : ld_bfs A G N H 50 0 [0] [1] = some r)
    (hp : ∀ q a7 a8 a9, post (nI r) (fl, fr, fe, q, a1, a2, a3, a4, a5, a6, a7, a8, a9, a10, a11, a12)) :
    wpX_findWrong post (fl, fr, fe, fq, a1, a2, a3, a4, a5, a6, a7, a8, a9, a10, a11, a12) := by
  unfold wpX_findWrong
  refine ld_startW (x := 0) (y := 0) (by decide) (fun q a7 a8 a9 hQ => ?_)
  exact ⟨50, ld_fw8 hM hA hN hp 50 0 [0] [1] q a7 a8 a9 (Nat.zero_le _) hQ e⟩
end
end
section
/-! walks: rowAfter, withoutFirst, addEnding, orderKinds -/
section
variable {fl fr fe fq : Int32} {a1 a2 a3 a4 a5 a6 a7 a8 a9 a10 a11 a12 : Nat → Int32} {H G E A B N : List Nat}
theorem ld_ra14 {post : Int32 → Prop} {w n m t : Nat} (hw : w < 65536) (hn : n < 32) (hm : m ≤ n) (hN : ld_R 14 a6 N) (hp : post (nI t)) :
    ∀ (c hi s : Nat), hi = n - m + c → hi ≤ n → ld_walk N w c hi s = some t → wX_rowAfter_14 post (nI w) (nI m) (nI n) fl fr fe fq a1 a2 a3 a4 a5 a6 a7 a8 a9 a10 a11 a12 (c + 1) (nI s) (nI hi + (-1)) := by
  intro c
  induction c with
  | zero =>
    intro hi s h1 h2 e
    have e' : s = t := Option.some.inj e
    subst e'
    refine br_t ?_ hp
    rw [pk_sub hm, show n - m = hi by omega]
    cases hi with
    | zero => decide
    | succ h =>
      rw [pk_m1]
      exact nI_lt (by omega) (by omega)
  | succ c ih =>
    intro hi s h1 h2 e
    obtain ⟨h, rfl⟩ : ∃ h, hi = h + 1 := ⟨hi - 1, by omega⟩
    unfold ld_walk at e
    rw [Nat.add_sub_cancel] at e
    obtain ⟨x, ex, e⟩ := ld_b e
    have hi' := ld_R_in hN ex
    rw [pk_m1]
    refine br_f ?_ ?_
    · rw [pk_sub hm]
      exact nI_nlt (by omega) (by omega)
    · rw [ld_place (by omega) (by omega), nI_clamp (by omega), (hN.2 _ _ ex).2]
      exact ⟨ld_in hi', nm_e (nm_e (ih h x (by omega) (by omega) e))⟩
theorem ld_raW {post : Int32 → Prop} {w m t : Nat} (hw : w < 65536) (hm : m ≤ w.log2) (hN : ld_R 14 a6 N) (e : ld_walk N w m w.log2 0 = some t) (hp : post (nI t)) :
    wpX_rowAfter post (fl, fr, fe, fq, a1, a2, a3, a4, a5, a6, a7, a8, a9, a10, a11, a12) (nI w) (nI m) := by
  have hn := ld_log (k := 16) hw (by decide)
  unfold wpX_rowAfter
  refine ld_len (by omega) ?_
  exact nm_r (ld_m1 _) ⟨m + 1, ld_ra14 hw (by omega) hm hN hp m w.log2 0 (by omega) (Nat.le_refl _) e⟩
theorem ld_wfW {post : Int32 → Prop} {w k : Nat} (hw : w < 65536) (hk : k ≤ w.log2) (hp : post (nI (ld_rest w (w.log2 - k)))) : wpX_withoutFirst post () (nI w) (nI k) := by
  have hn := ld_log (k := 16) hw (by decide)
  unfold wpX_withoutFirst
  refine ld_len (by omega) (nm_r (pk_sub hk) ?_)
  rw [ld_mask (by omega), ld_shl1 (by omega), ld_and, ld_or]
  exact hp
theorem ld_ae14 {post : St2 → Prop} {w t e' : Nat} (hw : w < 65536) (ht : t ≤ 1) (hM : ld_M H G a1 a2) (hB : ld_R 7 a3 B) (hE : ld_R 10 a5 E) (hE10 : E.length < 10) (hN : ld_R 14 a6 N)
    (hp : ∀ a5, ld_R 10 a5 (E ++ [e']) → post (fl, fr, nI (E.length + 1), fq, a1, a2, a3, a4, a5, a6, a7, a8, a9, a10, a11, a12)) :
    ∀ (c k : Nat), k + c = w.log2 + 1 → 1 ≤ k → ld_add H G N B w w.log2 t c k = some e' →
      wX_addEnding_14 post (nI w) (nI w.log2) (nI t) fl fr (nI E.length) fq a1 a2 a3 a4 a5 a6 a7 a8 a9 a10 a11 a12 (c + 1) (nI k) := by
  have hn := ld_log (k := 16) hw (by decide)
  intro c
  induction c with
  | zero => exact fun k _ _ e => nomatch e
  | succ c ih =>
    intro k hk h1 e
    unfold ld_add at e
    obtain ⟨r, er, e⟩ := ld_b e
    obtain ⟨b, eb, e⟩ := ld_b e
    obtain ⟨hr16, e⟩ := ld_c e
    obtain ⟨g, eg, e⟩ := ld_b e
    have hg := ld_good_le hM.2.2 eg
    have hb := hB.2 _ _ eb
    have hr := ld_R_in hB eb
    refine br_f (nI_nlt (by omega) (by omega)) (ld_raW hw (by omega) hN er (ld_wfW hw (by omega) ⟨ld_in hr, ?_⟩))
    rw [nI_clamp (n := r) (by omega), hb.2]
    refine ld_joinW (by omega) hr16 (ld_gw hM eg ?_)
    refine pk_eq g t (fun z => ?_) (fun z => ?_) rfl rfl (by omega) (by omega)
    · rw [if_pos z] at e
      exact nm_r (nI_1 k) (ih (k + 1) (by omega) (by omega) e)
    · rw [if_neg z] at e
      have e2 := Option.some.inj e
      rw [e2] at hr16 ⊢
      refine ⟨ld_in hE10, ?_⟩
      rw [nI_clamp (by omega)]
      exact nm_e (nm_r (nI_1 _) (hp _ (ld_R_app hE hE10 hr16)))
theorem ld_aeW {post : St2 → Prop} {w t e' : Nat} (hM : ld_M H G a1 a2) (hB : ld_R 7 a3 B) (hE : ld_R 10 a5 E) (hE10 : E.length < 10) (hN : ld_R 14 a6 N) (eg : ld_good H G w = some t) (e : ld_add H G N B w w.log2 t w.log2 1 = some e')
    (hp : ∀ a5, ld_R 10 a5 (E ++ [e']) → post (fl, fr, nI (E.length + 1), fq, a1, a2, a3, a4, a5, a6, a7, a8, a9, a10, a11, a12)) :
    wpX_addEnding post (fl, fr, nI E.length, fq, a1, a2, a3, a4, a5, a6, a7, a8, a9, a10, a11, a12) (nI w) := by
  have hg := ld_good_le hM.2.2 eg
  unfold wpX_addEnding
  refine ld_len (by omega) (ld_gw hM eg ?_)
  exact ⟨w.log2 + 1, ld_ae14 hg.1 hg.2 hM hB hE hE10 hN hp w.log2 1 (by omega) (Nat.le_refl 1) e⟩
/-- kinds: their rows, the kind of each row, their first words -/
def ld_O (K F : List Nat) (a10 a11 a12 : Nat → Int32) : Prop :=
  ld_R 7 a10 K ∧ ld_R 7 a12 F ∧ F.length = K.length ∧ ∀ r, r < 7 → a11 r = match ld_ix K r 0 with | some k => nI k | none => -1
theorem ld_ok59 {post : St2 → Prop} {J46 : Int32 → Int32 → (Nat → Int32) → (Nat → Int32) → (Nat → Int32) → (Nat → Int32) → (Nat → Int32) → (Nat → Int32) → (Nat → Int32) → (Nat → Int32) → (Nat → Int32) → (Nat → Int32) → (Nat → Int32) → (Nat → Int32) → Prop}
    {k l r w n i w' : Nat} {K F : List Nat} {S : List Nat × List Nat} (hl : l < 2) (hi : i = 2 * r + l) (hw' : w' = 2 * w + l) (hN : ld_R 14 a6 N) (hO : ld_O K F a10 a11 a12) (er : ld_at K k = some r) (ew : ld_at F k = some w) (e : ld_kd N i w' K F = some S)
    (hp : ∀ a10 a11 a12, ld_O S.1 S.2 a10 a11 a12 → ld_at S.1 k = some r → ld_at S.2 k = some w → K.length ≤ S.1.length → wX_orderKinds_59 post J46 (nI k) fl fr fe fq n (nI S.1.length) (nI (l + 1)) a1 a2 a3 a4 a5 a6 a7 a8 a9 a10 a11 a12) :
    wX_orderKinds_59 post J46 (nI k) fl fr fe fq (n + 1) (nI K.length) (nI l) a1 a2 a3 a4 a5 a6 a7 a8 a9 a10 a11 a12 := by
  subst hi hw'
  obtain ⟨hK, hF, hFK, hR⟩ := hO
  have hK7 := hK.1
  unfold ld_kd at e
  obtain ⟨x, ex, e⟩ := ld_b e
  obtain ⟨hx, e⟩ := ld_c e
  have hk := ld_R_in hK er
  have hrk := hK.2 _ _ er
  have hwk := hF.2 _ _ ew
  have hi := ld_R_in hN ex
  have hRx := hR x hx
  refine br_f (nI_ge (b := 2) hl (by decide)) ⟨ld_in hk, ?_⟩
  rw [nI_clamp (n := k) (by omega), hrk.2, ld_2p, nI_clamp (by omega), (hN.2 _ _ ex).2, hwk.2, ld_2p]
  refine ⟨ld_in hi, nm_e ⟨ld_in hx, ?_⟩⟩
  rw [nI_clamp (by omega)]
  cases ei : ld_ix K x 0 with
  | some j =>
    rw [ei] at e hRx
    have e' := Option.some.inj e
    subst e'
    have hj := ld_ix_lt ei
    rw [hRx]
    exact br_t (nI_pos' (by omega)) (nm_r (nI_1 l) (hp _ _ _ ⟨hK, hF, hFK, hR⟩ er ew (Nat.le_refl _)))
  | none =>
    rw [ei] at e hRx
    obtain ⟨⟨hw, hlt⟩, e⟩ := ld_c e
    have e' := Option.some.inj e
    subst e'
    rw [hRx]
    refine br_f (by decide) ⟨ld_in hx, nm_e ⟨ld_in hlt, ?_⟩⟩
    rw [nI_clamp (by omega)]
    have hF' := ld_R_app hF (by omega) hw
    rw [hFK] at hF'
    have t := hp (upd a10 K.length (nI x)) (upd a11 x (nI K.length)) (upd a12 K.length (nI (2 * w + l))) ⟨ld_R_app hK hlt (by omega), hF', ?_, ?_⟩ (ld_at_ext er) (ld_at_ext ew) (by rw [ld_len1]; omega)
    · rw [ld_len1] at t
      exact nm_e ⟨ld_in hk, ld_in hlt, nm_e (nm_r (nI_1 _) (nm_r (nI_1 l) t))⟩
    · rw [ld_len1, ld_len1, hFK]
    · intro p hp7
      rw [ld_ix_app]
      by_cases c : p = x
      · rw [c, pk_us, ei]
        simp
      · rw [pk_un c, hR p hp7, if_neg (fun z => c z.symm)]
        cases ld_ix K p 0 <;> rfl
theorem ld_ok46 {post : St2 → Prop} {R : List Nat × List Nat} (hN : ld_R 14 a6 N) (hp : ∀ a10 a11 a12, ld_O R.1 R.2 a10 a11 a12 → post (fl, fr, fe, fq, a1, a2, a3, a4, a5, a6, a7, a8, a9, a10, a11, a12)) :
    ∀ (f k : Nat) (K F : List Nat) (a10 a11 a12 : Nat → Int32), k ≤ K.length → ld_O K F a10 a11 a12 → ld_ord N f k K F = some R →
      wX_orderKinds_46 post fl fr fe fq f (nI K.length) (nI k) a1 a2 a3 a4 a5 a6 a7 a8 a9 a10 a11 a12 := by
  intro f
  induction f with
  | zero => exact fun k K F a10 a11 a12 hk hO e => nomatch e
  | succ f ih =>
    intro k K F a10 a11 a12 hk hO e
    have hK7 := hO.1.1
    unfold ld_ord at e
    cases er : ld_at K k with
    | none =>
      rw [er] at e
      have e' := Option.some.inj e
      subst e'
      have hk' := ld_at_none er
      exact br_t (nI_le (by omega) (by omega)) (hp _ _ _ hO)
    | some r =>
      rw [er] at e
      obtain ⟨w, ew, e⟩ := ld_b e
      obtain ⟨S, eS, e⟩ := ld_b e
      obtain ⟨T, eT, e⟩ := ld_b e
      have hk' := ld_at_lt er
      refine br_f (nI_ge (by omega) (by omega)) (br_f (nI_ge (b := 7) (by omega) (by decide)) ⟨3, ?_⟩)
      refine ld_ok59 (l := 0) (by decide) rfl rfl hN hO er ew eS (fun a10 a11 a12 hO1 er1 ew1 h1 => ?_)
      refine ld_ok59 (l := 1) (by decide) rfl rfl hN hO1 er1 ew1 eT (fun a10 a11 a12 hO2 er2 ew2 h2 => ?_)
      exact br_t (nI_le (a := 2) (b := 1 + 1) (by decide) (by decide)) (nm_r (nI_1 k) (ih (k + 1) _ _ a10 a11 a12 (by omega) hO2 e))
theorem ld_ok2 {post : St2 → Prop} {R : List Nat × List Nat} (hN : ld_R 14 a6 N) (e : ld_ord N 8 0 [0] [1] = some R) (hp : ∀ a10 a11 a12, ld_O R.1 R.2 a10 a11 a12 → post (fl, fr, fe, fq, a1, a2, a3, a4, a5, a6, a7, a8, a9, a10, a11, a12)) :
    ∀ (d k : Nat) (a11 : Nat → Int32), k + d = 7 → (∀ j, j < k → a11 j = -1) → wX_orderKinds_2 post fl fr fe fq (d + 1) (nI k) a1 a2 a3 a4 a5 a6 a7 a8 a9 a10 a11 a12 := by
  intro d
  induction d with
  | zero =>
    intro k a11 hk h
    refine br_t (nI_le (a := 7) (by omega) (by omega)) (nm_e (nm_e (nm_e ⟨8, ?_⟩)))
    refine ld_ok46 hN hp 8 0 [0] [1] _ _ _ (Nat.zero_le _) ⟨ld_R_app (l := []) (ld_R_nil 7 a10) (by decide) (by decide), ld_R_app (l := []) (v := 1) (ld_R_nil 7 a12) (by decide) (by decide), rfl, fun r hr => ?_⟩ e
    by_cases c : r = 0
    · rw [c, pk_us]
      rfl
    · rw [pk_un c, h r (by omega)]
      have c' : ¬ 0 = r := fun z => c z.symm
      simp [ld_ix, c']
  | succ d ih =>
    intro k a11 hk h
    refine br_f (nI_ge (b := 7) (by omega) (by decide)) ⟨ld_in (by omega), ?_⟩
    rw [nI_clamp (by omega)]
    refine nm_e (nm_r (nI_1 k) (ih (k + 1) _ (by omega) (fun j hj => ?_)))
    by_cases c : j = k
    · rw [c, pk_us]
    · rw [pk_un c]
      exact h j (by omega)
theorem ld_okW {post : St2 → Prop} {R : List Nat × List Nat} (hN : ld_R 14 a6 N) (e : ld_ord N 8 0 [0] [1] = some R) (hp : ∀ a10 a11 a12, ld_O R.1 R.2 a10 a11 a12 → post (fl, fr, fe, fq, a1, a2, a3, a4, a5, a6, a7, a8, a9, a10, a11, a12)) :
    wpX_orderKinds post (fl, fr, fe, fq, a1, a2, a3, a4, a5, a6, a7, a8, a9, a10, a11, a12) := by
  unfold wpX_orderKinds
  exact ⟨8, ld_ok2 hN e hp 7 0 a11 rfl (fun j hj => absurd hj (by omega))⟩
end
end
section
/-! walks: learn, and what the states are -/
/-- learned: the arrays hold the machine and the table T (rows, answers, guess, row of kind, first words) -/
def ld_L (H G : List Nat) (T : Nat × List Nat × List Nat × List Nat × List Nat) (u : St2) : Prop := match u with
  | (fl, fr, fe, fq, a1, a2, a3, a4, a5, a6, a7, a8, a9, a10, a11, a12) => fl = 1 ∧ fr = nI T.1 ∧ T.1 ≤ 7 ∧ ld_M H G a1 a2 ∧ ld_R 7 a4 T.2.1 ∧ ld_R 14 a6 T.2.2.1 ∧ ld_O T.2.2.2.1 T.2.2.2.2 a10 a11 a12
/-- not learned -/
def ld_U (H G : List Nat) (u : St2) : Prop := match u with
  | (fl, fr, fe, fq, a1, a2, a3, a4, a5, a6, a7, a8, a9, a10, a11, a12) => fl = 0 ∧ ld_M H G a1 a2
def ld_S (H G : List Nat) (T : Nat × List Nat × List Nat × List Nat × List Nat) (u : St2) : Prop := ld_L H G T u ∨ ld_U H G u
section
variable {fl fr fe fq : Int32} {a1 a2 a3 a4 a5 a6 a7 a8 a9 a10 a11 a12 : Nat → Int32} {H G : List Nat} {T : Nat × List Nat × List Nat × List Nat × List Nat}
theorem ld_l41 {post : St2 → Prop} (hM : ld_M H G a1 a2) (hp : ∀ u, ld_L H G T u → post u) :
    ∀ (f rd : Nat) (B E : List Nat) (fq : Int32) (a3 a4 a5 a6 a7 a8 a9 : Nat → Int32), rd + f = 9 → ld_R 7 a3 B → ld_R 10 a5 E → ld_rounds H G f B E = some T →
      wX_learn_41 post (f + 1) 1 (nI rd) 1 (nI B.length) (nI E.length) fq a1 a2 a3 a4 a5 a6 a7 a8 a9 a10 a11 a12 := by
  intro f
  induction f with
  | zero => exact fun rd B E fq a3 a4 a5 a6 a7 a8 a9 hr hB hE e => nomatch e
  | succ f ih =>
    intro rd B E fq a3 a4 a5 a6 a7 a8 a9 hr hB hE e
    unfold ld_rounds at e
    obtain ⟨A, eA, e⟩ := ld_b e
    obtain ⟨S, eS, e⟩ := ld_b e
    obtain ⟨w, ew, e⟩ := ld_b e
    have hAB : A.length = B.length := by
      have := ld_fill_len _ _ eA
      rw [List.length_nil, Nat.zero_add] at this
      exact this
    refine br_f (nI_ge (b := 9) (by omega) (by decide)) (br_f (by decide) ?_)
    refine ld_fillW hM hE hB eA (fun a4 hA => ?_)
    refine ld_closeW hM hE hB hA hAB eS (fun a3 a4 a6 hT => ?_)
    refine ld_fwW hM hT.2.1 hT.2.2.1 ew (fun q a7 a8 a9 => ?_)
    by_cases c : w = 0
    · rw [if_pos c] at e
      obtain ⟨R, eR, e⟩ := ld_b e
      have e' := Option.some.inj e
      have h89 : wX_learn_89 post 1 (nI S.1.length) (nI E.length) q a1 a2 a3 a4 a5 a6 a7 a8 a9 a10 a11 a12 := by
        unfold wX_learn_89
        refine ld_okW hT.2.2.1 eR (fun a10 a11 a12 hO => ?_)
        rw [← e'] at hp
        exact hp _ ⟨rfl, rfl, hT.1.1, hM, hT.2.1, hT.2.2.1, hO⟩
      rw [c]
      refine br_t (by decide) ?_
      unfold wX_learn_73
      refine br_t rfl (nm_r (nI_1 rd) ?_)
      exact br_c (fun _ => h89) (fun _ => br_t rfl h89)
    · rw [if_neg c] at e
      obtain ⟨t, et, e⟩ := ld_b e
      obtain ⟨x, ex, e⟩ := ld_b e
      obtain ⟨hE10, e⟩ := ld_c e
      have hw := ld_good_le hM.2.2 et
      refine br_f (nI_nle (by omega) (by omega)) ?_
      unfold wX_learn_73
      refine br_f (by decide) (ld_aeW hM hT.1 hE hE10 hT.2.2.1 et ex (fun a5 hE' => ?_))
      refine nm_r (nI_1 rd) ?_
      have t := ih (rd + 1) S.1 (E ++ [x]) q a3 a4 a5 a6 a7 a8 a9 (by omega) hT.1 hE' e
      rw [ld_len1] at t
      exact t
theorem ld_learnW {post : St2 → Prop} (eT : ld_learn H G = some T) (hS : ld_S H G T (fl, fr, fe, fq, a1, a2, a3, a4, a5, a6, a7, a8, a9, a10, a11, a12)) (hp : ∀ u, ld_L H G T u → post u) :
    wpX_learn post (fl, fr, fe, fq, a1, a2, a3, a4, a5, a6, a7, a8, a9, a10, a11, a12) := by
  unfold wpX_learn
  rcases hS with hL | ⟨h0, hM⟩
  · refine br_f ?_ (hp _ hL)
    rw [hL.1]
    decide
  · refine br_t h0 (nm_e (nm_e ⟨10, ?_⟩))
    exact ld_l41 hM hp 9 0 [1] [1] fq _ a4 _ a6 a7 a8 a9 rfl (ld_R_app (l := []) (v := 1) (ld_R_nil 7 a3) (by decide) (by decide)) (ld_R_app (l := []) (v := 1) (ld_R_nil 10 a5) (by decide) (by decide)) eT
end
end
section
/-! walks: the class's public methods over the states ld_S, ld_U -/
section
variable {fl fr fe fq : Int32} {a1 a2 a3 a4 a5 a6 a7 a8 a9 a10 a11 a12 : Nat → Int32} {H G : List Nat} {T : Nat × List Nat × List Nat × List Nat × List Nat} {u : St2}
theorem ld_S_M (h : ld_S H G T (fl, fr, fe, fq, a1, a2, a3, a4, a5, a6, a7, a8, a9, a10, a11, a12)) : ld_M H G a1 a2 := by
  rcases h with h | h
  · exact h.2.2.2.1
  · exact h.2
theorem ld_kindsW {post : Int32 → St2 → Prop} (eT : ld_learn H G = some T) (hS : ld_S H G T u) (hp : ∀ u, ld_S H G T u → post (nI T.1) u) : wpX_kinds post u := by
  obtain ⟨fl, fr, fe, fq, a1, a2, a3, a4, a5, a6, a7, a8, a9, a10, a11, a12⟩ := u
  unfold wpX_kinds
  refine ld_learnW eT hS (fun u hL => ?_)
  obtain ⟨fl, fr, fe, fq, a1, a2, a3, a4, a5, a6, a7, a8, a9, a10, a11, a12⟩ := u
  have h := hp _ (Or.inl hL)
  rw [← hL.2.1] at h
  exact h
theorem ld_isW {post : Int32 → Prop} {w : Nat} (h1 : 1 ≤ w) (h2 : w ≤ 4095) (hp : post 1) : wpX_isWord post () (nI w) := by
  unfold wpX_isWord
  exact br_f (nI_nlt (b := 1) h1 (by omega)) (br_f (nI_nlt (a := 4095) h2 (by decide)) hp)
theorem ld_askW {post : Int32 → Prop} {w g : Nat} (hS : ld_S H G T u) (h1 : 1 ≤ w) (h2 : w ≤ 4095) (e : ld_good H G w = some g) (hp : post (nI g)) : wpX_ask post u (nI w) := by
  obtain ⟨fl, fr, fe, fq, a1, a2, a3, a4, a5, a6, a7, a8, a9, a10, a11, a12⟩ := u
  have hM := ld_S_M hS
  have hg := ld_good_le hM.2.2 e
  unfold wpX_ask
  refine ld_isW h1 h2 (br_f (by decide) (ld_gw hM e ?_))
  have c : g = 0 ∨ g = 1 := by omega
  rcases c with rfl | rfl
  · exact br_t rfl hp
  · exact br_f (by decide) hp
theorem ld_kindW {post : Int32 → St2 → Prop} {w r k : Nat} (eT : ld_learn H G = some T) (hS : ld_S H G T u) (h1 : 1 ≤ w) (h2 : w ≤ 4095) (e : ld_walk T.2.2.1 w w.log2 w.log2 0 = some r) (hr : r < 7) (ek : ld_ix T.2.2.2.1 r 0 = some k) (hp : ∀ u, ld_S H G T u → post (nI k) u) : wpX_kind post u (nI w) := by
  obtain ⟨fl, fr, fe, fq, a1, a2, a3, a4, a5, a6, a7, a8, a9, a10, a11, a12⟩ := u
  unfold wpX_kind
  refine ld_isW h1 h2 (br_f (by decide) (ld_learnW eT hS (fun u hL => ?_)))
  obtain ⟨fl, fr, fe, fq, a1, a2, a3, a4, a5, a6, a7, a8, a9, a10, a11, a12⟩ := u
  refine ld_len (by omega) (ld_raW (by omega) (Nat.le_refl _) hL.2.2.2.2.2.1 e ⟨ld_in hr, ?_⟩)
  have h := hL.2.2.2.2.2.2.2.2.2 r hr
  rw [ek] at h
  rw [nI_clamp (by omega), h]
  exact hp _ (Or.inl hL)
theorem ld_firstW {post : Int32 → St2 → Prop} {k f : Nat} (eT : ld_learn H G = some T) (hS : ld_S H G T u) (hk : k < T.1) (e : ld_at T.2.2.2.2 k = some f) (hp : ∀ u, ld_S H G T u → post (nI f) u) : wpX_first post u (nI k) := by
  obtain ⟨fl, fr, fe, fq, a1, a2, a3, a4, a5, a6, a7, a8, a9, a10, a11, a12⟩ := u
  unfold wpX_first
  refine ld_learnW eT hS (fun u hL => ?_)
  obtain ⟨fl, fr, fe, fq, a1, a2, a3, a4, a5, a6, a7, a8, a9, a10, a11, a12⟩ := u
  have h7 := hL.2.2.1
  have hF := hL.2.2.2.2.2.2.2.1
  have hk7 := ld_R_in hF e
  dsimp only
  refine br_f (nI_pos (by omega)) ?_
  have e1 := hL.2.1
  refine br_t ?_ ⟨ld_in hk7, ?_⟩
  · rw [e1]
    exact nI_lt hk (by omega)
  · rw [nI_clamp (by omega), (hF.2 _ _ e).2]
    exact hp _ (Or.inl hL)
theorem ld_firstN {post : Int32 → St2 → Prop} {k : Nat} (eT : ld_learn H G = some T) (hS : ld_S H G T u) (hk : T.1 ≤ k) (hk2 : k < 2 ^ 31) (hp : ∀ u, ld_S H G T u → post (-1) u) : wpX_first post u (nI k) := by
  obtain ⟨fl, fr, fe, fq, a1, a2, a3, a4, a5, a6, a7, a8, a9, a10, a11, a12⟩ := u
  unfold wpX_first
  refine ld_learnW eT hS (fun u hL => ?_)
  obtain ⟨fl, fr, fe, fq, a1, a2, a3, a4, a5, a6, a7, a8, a9, a10, a11, a12⟩ := u
  have e1 := hL.2.1
  dsimp only
  refine br_f (nI_pos hk2) (br_f ?_ (hp _ (Or.inl hL)))
  rw [e1]
  exact nI_nlt hk hk2
theorem ld_isGoodW {post : Int32 → St2 → Prop} {k r a : Nat} (eT : ld_learn H G = some T) (hS : ld_S H G T u) (hk : k < T.1) (er : ld_at T.2.2.2.1 k = some r) (ea : ld_at T.2.1 r = some a) (hp : ∀ u, ld_S H G T u → post (nI (a % 2)) u) : wpX_isGood post u (nI k) := by
  obtain ⟨fl, fr, fe, fq, a1, a2, a3, a4, a5, a6, a7, a8, a9, a10, a11, a12⟩ := u
  unfold wpX_isGood
  refine ld_learnW eT hS (fun u hL => ?_)
  obtain ⟨fl, fr, fe, fq, a1, a2, a3, a4, a5, a6, a7, a8, a9, a10, a11, a12⟩ := u
  have h7 := hL.2.2.1
  have hA := hL.2.2.2.2.1
  have hK := hL.2.2.2.2.2.2.1
  have hk7 := ld_R_in hK er
  have hr7 := ld_R_in hA ea
  have ha := hA.2 _ _ ea
  dsimp only
  refine br_f (nI_pos (by omega)) (br_t ?_ ⟨ld_in hk7, ?_⟩)
  · rw [hL.2.1]
    exact nI_lt hk (by omega)
  · rw [nI_clamp (by omega), (hK.2 _ _ er).2, nI_clamp (by omega), ha.2, ld_an1 (by omega)]
    exact ⟨ld_in hr7, hp _ (Or.inl hL)⟩
theorem ld_isGoodN {post : Int32 → St2 → Prop} {k : Nat} (eT : ld_learn H G = some T) (hS : ld_S H G T u) (hk : T.1 ≤ k) (hk2 : k < 2 ^ 31) (hp : ∀ u, ld_S H G T u → post (-1) u) : wpX_isGood post u (nI k) := by
  obtain ⟨fl, fr, fe, fq, a1, a2, a3, a4, a5, a6, a7, a8, a9, a10, a11, a12⟩ := u
  unfold wpX_isGood
  refine ld_learnW eT hS (fun u hL => ?_)
  obtain ⟨fl, fr, fe, fq, a1, a2, a3, a4, a5, a6, a7, a8, a9, a10, a11, a12⟩ := u
  have e1 := hL.2.1
  dsimp only
  refine br_f (nI_pos hk2) (br_f ?_ (hp _ (Or.inl hL)))
  rw [e1]
  exact nI_nlt hk hk2
theorem ld_nextW {post : Int32 → St2 → Prop} {k r b x j : Nat} {l : Int32} (eT : ld_learn H G = some T) (hS : ld_S H G T u) (hk : k < T.1) (er : ld_at T.2.2.2.1 k = some r) (hl : l &&& 1 = nI b) (ex : ld_at T.2.2.1 (2 * r + b) = some x) (hx : x < 7) (ej : ld_ix T.2.2.2.1 x 0 = some j) (hp : ∀ u, ld_S H G T u → post (nI j) u) : wpX_next post u (nI k) l := by
  obtain ⟨fl, fr, fe, fq, a1, a2, a3, a4, a5, a6, a7, a8, a9, a10, a11, a12⟩ := u
  unfold wpX_next
  refine ld_learnW eT hS (fun u hL => ?_)
  obtain ⟨fl, fr, fe, fq, a1, a2, a3, a4, a5, a6, a7, a8, a9, a10, a11, a12⟩ := u
  have h7 := hL.2.2.1
  have hN := hL.2.2.2.2.2.1
  have hK := hL.2.2.2.2.2.2.1
  have hk7 := ld_R_in hK er
  have hi := ld_R_in hN ex
  have h := hL.2.2.2.2.2.2.2.2.2 x hx
  rw [ej] at h
  dsimp only
  refine br_f (nI_pos (by omega)) (br_t ?_ ⟨ld_in hk7, ?_⟩)
  · rw [hL.2.1]
    exact nI_lt hk (by omega)
  · rw [nI_clamp (by omega), (hK.2 _ _ er).2, hl, ld_2p, nI_clamp (by omega), (hN.2 _ _ ex).2, nI_clamp (by omega), h]
    exact ⟨ld_in hi, ld_in hx, hp _ (Or.inl hL)⟩
theorem ld_nextN {post : Int32 → St2 → Prop} {l : Int32} (eT : ld_learn H G = some T) (hS : ld_S H G T u) (hp : ∀ u, ld_S H G T u → post (-1) u) : wpX_next post u (-1) l := by
  obtain ⟨fl, fr, fe, fq, a1, a2, a3, a4, a5, a6, a7, a8, a9, a10, a11, a12⟩ := u
  unfold wpX_next
  refine ld_learnW eT hS (fun u hL => ?_)
  obtain ⟨fl, fr, fe, fq, a1, a2, a3, a4, a5, a6, a7, a8, a9, a10, a11, a12⟩ := u
  dsimp only
  exact br_t (by decide) (hp _ (Or.inl hL))
theorem ld_df130 {post : Int32 → St2 → Prop} {J59 : Int32 → Int32 → Int32 → Int32 → Int32 → (Nat → Int32) → (Nat → Int32) → (Nat → Int32) → (Nat → Int32) → (Nat → Int32) → (Nat → Int32) → (Nat → Int32) → (Nat → Int32) → (Nat → Int32) → (Nat → Int32) → (Nat → Int32) → (Nat → Int32) → Prop}
    {k x y l w w' n xx yy i j : Nat} {N Q W : List Nat} {S : List Nat × List Nat} (hl : l < 2) (hi : i = 2 * x + l) (hj : j = 2 * y + l) (hw' : w' = 2 * w + l) (hN : ld_R 14 a6 N) (ex : ld_at N i = some xx) (ey : ld_at N j = some yy) (hk : k < 49) (eW : ld_at W k = some w)
    (hQ : ld_Q fq a7 a8 a9 Q W) (e : ld_push (7 * xx + yy) w' Q W = some S)
    (hp : ∀ q a7 a8 a9, ld_Q q a7 a8 a9 S.1 S.2 → wX_difference_130 post J59 (nI k) (nI x) (nI y) n (nI (l + 1)) fl fr fe q a1 a2 a3 a4 a5 a6 a7 a8 a9 a10 a11 a12) :
    wX_difference_130 post J59 (nI k) (nI x) (nI y) (n + 1) (nI l) fl fr fe fq a1 a2 a3 a4 a5 a6 a7 a8 a9 a10 a11 a12 := by
  subst hi hj hw'
  have hx := ld_R_in hN ex
  have hy := ld_R_in hN ey
  refine br_f (nI_ge (b := 2) hl (by decide)) ?_
  rw [ld_2p, ld_2p, nI_clamp (n := 2 * x + l) (by omega), nI_clamp (n := 2 * y + l) (by omega), nI_clamp (n := k) (by omega), (hN.2 _ _ ex).2, (hN.2 _ _ ey).2, (hQ.2.2.2.1.2 _ _ eW).2, ld_2p]
  refine ⟨ld_in hx, ld_in hy, ld_in hk, ld_reach hQ e (fun q a7 a8 a9 hQ' => ?_)⟩
  exact nm_r (nI_1 l) (hp q a7 a8 a9 hQ')
theorem ld_xor1 {a t : Nat} (ha : a < 65536) (ht : t < 65536) : (nI a ^^^ nI t) &&& 1 = nI ((a % 2 + t % 2) % 2) := by
  rw [ld_xor, ld_an1 (Nat.lt_trans (Nat.xor_lt_two_pow (n := 16) ha ht) (by decide))]
  have h : (a ^^^ t) % 2 = (a % 2 + t % 2) % 2 := by
    have h1 := Nat.testBit_xor a t 0
    rw [Nat.testBit_zero, Nat.testBit_zero, Nat.testBit_zero] at h1
    rcases Nat.mod_two_eq_zero_or_one a with ha | ha <;> rcases Nat.mod_two_eq_zero_or_one t with ht | ht <;> rw [ha, ht] at h1 ⊢ <;> rcases Nat.mod_two_eq_zero_or_one (a ^^^ t) with hx | hx <;> rw [hx] at h1 ⊢ <;> simp at h1 ⊢
  rw [h]
theorem ld_df59 {post : Int32 → St2 → Prop} {r : Nat} {A N : List Nat} (hA : ld_R 7 a4 A) (hN : ld_R 14 a6 N)
    (hp : ∀ q a7 a8 a9, post (nI r) (fl, fr, fe, q, a1, a2, a3, a4, a5, a6, a7, a8, a9, a10, a11, a12)) :
    ∀ (f k : Nat) (Q W : List Nat) (fq : Int32) (a7 a8 a9 : Nat → Int32), k ≤ Q.length → ld_Q fq a7 a8 a9 Q W → ld_bfs A A N N f k Q W = some r →
      wX_difference_59 post f (nI k) fl fr fe fq a1 a2 a3 a4 a5 a6 a7 a8 a9 a10 a11 a12 := by
  intro f
  induction f with
  | zero => exact fun k Q W fq a7 a8 a9 hk hQ e => nomatch e
  | succ f ih =>
    intro k Q W fq a7 a8 a9 hk hQ e
    have hQ49 := hQ.2.2.1.1
    have hq := hQ.1
    unfold ld_bfs at e
    cases ep : ld_at Q k with
    | none =>
      rw [ep] at e
      have e' := Option.some.inj e
      subst e'
      have hk' := ld_at_none ep
      rw [hq]
      exact br_t (nI_le (by omega) (by omega)) (hp _ _ _ _)
    | some p =>
      rw [ep] at e
      obtain ⟨w, ew, e⟩ := ld_b e
      obtain ⟨a, ea, e⟩ := ld_b e
      obtain ⟨t, et, e⟩ := ld_b e
      have hk' := ld_at_lt ep
      have hp49 := hQ.2.2.2.2.1 k p ep
      have ha := hA.2 _ _ ea
      have ht := hA.2 _ _ et
      have hd := ld_R_in hA ea
      have hm := ld_R_in hA et
      subst hq
      refine br_f (nI_ge (by omega) (by omega)) (br_f (nI_ge (b := 49) (by omega) (by decide)) ⟨ld_in (by omega), by decide, ?_⟩)
      rw [nI_clamp (by omega), (hQ.2.2.1.2 _ _ ep).2]
      refine nm_r (pk_div (a := p) (d := 7) (by omega) (by decide) (by decide)) ⟨ld_in (by omega), by decide, nm_r (pk_rem (a := p) (d := 7) (by omega) (by decide) (by decide)) ⟨ld_in hd, ld_in hm, ?_⟩⟩
      rw [nI_clamp (n := p / 7) (by omega), nI_clamp (n := p % 7) (by omega), ha.2, ht.2, ld_xor1 ha.1 ht.1, (hQ.2.2.2.1.2 _ _ ew).2]
      by_cases c : a % 2 = t % 2
      · rw [if_pos c] at e
        rw [show (a % 2 + t % 2) % 2 = 0 by omega]
        obtain ⟨x0, ex0, e⟩ := ld_b e
        obtain ⟨y0, ey0, e⟩ := ld_b e
        obtain ⟨S0, eS0, e⟩ := ld_b e
        obtain ⟨x1, ex1, e⟩ := ld_b e
        obtain ⟨y1, ey1, e⟩ := ld_b e
        obtain ⟨S1, eS1, e⟩ := ld_b e
        have h0 := ld_push_ok eS0
        have h1 := ld_push_ok eS1
        refine br_t rfl ⟨3, ld_df130 (l := 0) (by decide) rfl rfl rfl hN ex0 ey0 (by omega) ew hQ eS0 (fun q a7 a8 a9 hQ0 => ?_)⟩
        refine ld_df130 (l := 1) (by decide) rfl rfl rfl hN ex1 ey1 (by omega) (h0.2.2 _ _ ew) hQ0 eS1 (fun q a7 a8 a9 hQ1 => ?_)
        exact br_t (nI_le (a := 2) (b := 1 + 1) (by decide) (by decide)) (nm_r (nI_1 k) (ih (k + 1) _ _ q a7 a8 a9 (by omega) hQ1 e))
      · rw [if_neg c] at e
        have e' := Option.some.inj e
        subst e'
        rw [show (a % 2 + t % 2) % 2 = 1 by omega]
        exact br_f (by decide) ⟨ld_in (by omega), hp _ _ _ _⟩
theorem ld_diffW {post : Int32 → St2 → Prop} {w v a b r : Nat} (eT : ld_learn H G = some T) (hS : ld_S H G T u) (h1 : 1 ≤ w) (h2 : w ≤ 4095) (h3 : 1 ≤ v) (h4 : v ≤ 4095) (ea : ld_walk T.2.2.1 w w.log2 w.log2 0 = some a) (eb : ld_walk T.2.2.1 v v.log2 v.log2 0 = some b)
    (hab : 7 * a + b < 49) (e : ld_bfs T.2.1 T.2.1 T.2.2.1 T.2.2.1 50 0 [7 * a + b] [1] = some r) (hp : ∀ u, ld_S H G T u → post (nI r) u) : wpX_difference post u (nI w) (nI v) := by
  obtain ⟨fl, fr, fe, fq, a1, a2, a3, a4, a5, a6, a7, a8, a9, a10, a11, a12⟩ := u
  unfold wpX_difference
  refine ld_isW h1 h2 (br_f (by decide) (ld_isW h3 h4 (br_f (by decide) (ld_learnW eT hS (fun u hL => ?_)))))
  obtain ⟨fl, fr, fe, fq, a1, a2, a3, a4, a5, a6, a7, a8, a9, a10, a11, a12⟩ := u
  have hA := hL.2.2.2.2.1
  have hN := hL.2.2.2.2.2.1
  refine ld_len (by omega) (ld_len (by omega) (ld_raW (by omega) (Nat.le_refl _) hN ea (ld_raW (by omega) (Nat.le_refl _) hN eb (ld_startW hab (fun q a7 a8 a9 hQ => ?_)))))
  exact ⟨50, ld_df59 hA hN (fun q a7 a8 a9 => hp _ (Or.inl hL)) 50 0 _ _ q a7 a8 a9 (Nat.zero_le _) hQ e⟩
theorem ld_diffN2 {post : Int32 → St2 → Prop} {w : Nat} (hS : ld_S H G T u) (h1 : 1 ≤ w) (h2 : w ≤ 4095) (hp : ∀ u, ld_S H G T u → post (-1) u) : wpX_difference post u (nI w) 0 := by
  obtain ⟨fl, fr, fe, fq, a1, a2, a3, a4, a5, a6, a7, a8, a9, a10, a11, a12⟩ := u
  unfold wpX_difference
  refine ld_isW h1 h2 (br_f (by decide) ?_)
  unfold wpX_isWord
  exact br_t (by decide) (br_t rfl (hp _ hS))
theorem ld_diffN1 {post : Int32 → St2 → Prop} {v : Int32} (hS : ld_S H G T u) (hp : ∀ u, ld_S H G T u → post (-1) u) : wpX_difference post u 4096 v := by
  obtain ⟨fl, fr, fe, fq, a1, a2, a3, a4, a5, a6, a7, a8, a9, a10, a11, a12⟩ := u
  unfold wpX_difference
  unfold wpX_isWord
  exact br_f (by decide) (br_t (by decide) (br_t rfl (hp _ hS)))
/-- the arrays hold the machine, learned or not -/
def ld_V (H G : List Nat) (u : St2) : Prop := match u with
  | (fl, fr, fe, fq, a1, a2, a3, a4, a5, a6, a7, a8, a9, a10, a11, a12) => ld_M H G a1 a2
theorem ld_S_V (h : ld_S H G T u) : ld_V H G u := by
  obtain ⟨fl, fr, fe, fq, a1, a2, a3, a4, a5, a6, a7, a8, a9, a10, a11, a12⟩ := u
  exact ld_S_M h
theorem ld_U_V (h : ld_U H G u) : ld_V H G u := by
  obtain ⟨fl, fr, fe, fq, a1, a2, a3, a4, a5, a6, a7, a8, a9, a10, a11, a12⟩ := u
  exact h.2
theorem ld_arrowW {post : Int32 → St2 → Prop} {f t b : Nat} {l : Int32} (hV : ld_V H G u) (hf : f < 7) (ht : t < 7) (hb : b < 2) (hl : l &&& 1 = nI b) (hp : ∀ u, ld_U (H.set (2 * f + b) t) G u → post 0 u) : wpX_arrow post u (nI f) l (nI t) := by
  obtain ⟨fl, fr, fe, fq, a1, a2, a3, a4, a5, a6, a7, a8, a9, a10, a11, a12⟩ := u
  unfold wpX_arrow
  refine br_f (nI_pos (by omega)) (br_f (nI_nlt (a := 6) (by omega) (by decide)) (br_f (nI_pos (by omega)) (br_t (nI_le (b := 6) (by omega) (by decide)) ?_)))
  rw [hl, ld_2p, nI_clamp (by omega)]
  exact ⟨ld_in (by omega), nm_e (hp _ ⟨rfl, ld_R_set hV.1 (by omega), hV.2⟩)⟩
theorem ld_goodW {post : Int32 → St2 → Prop} {s : Nat} (hV : ld_V H G u) (hs : s < 7) (hp : ∀ u, ld_U H (G.set s 1) u → post 0 u) : wpX_good post u (nI s) 1 := by
  obtain ⟨fl, fr, fe, fq, a1, a2, a3, a4, a5, a6, a7, a8, a9, a10, a11, a12⟩ := u
  unfold wpX_good
  refine br_f (nI_pos (by omega)) (br_t (nI_le (b := 6) (by omega) (by decide)) ⟨ld_in (by omega), ?_⟩)
  rw [nI_clamp (by omega)]
  refine nm_e (hp _ ⟨rfl, hV.1, ld_R_set (v := 1) hV.2.1 (by decide), fun i v e => ?_⟩)
  rcases ld_at_set e with ⟨_, h⟩ | ⟨_, h⟩
  · omega
  · exact hV.2.2 i v h
theorem ld_goodN {post : Int32 → St2 → Prop} (hp : post (-1) u) : wpX_good post u 7 1 := by
  obtain ⟨fl, fr, fe, fq, a1, a2, a3, a4, a5, a6, a7, a8, a9, a10, a11, a12⟩ := u
  unfold wpX_good
  exact br_f (by decide) (br_f (by decide) hp)
theorem ld_arrowN {post : Int32 → St2 → Prop} {f l t : Int32} (h : f < 0 ∨ 6 < f ∨ t < 0 ∨ 6 < t) (hp : post (-1) u) : wpX_arrow post u f l t := by
  obtain ⟨fl, fr, fe, fq, a1, a2, a3, a4, a5, a6, a7, a8, a9, a10, a11, a12⟩ := u
  unfold wpX_arrow
  refine br_c (fun _ => hp) (fun h1 => br_c (fun _ => hp) (fun h2 => br_c (fun _ => hp) (fun h3 => br_f ?_ hp)))
  rcases h with h | h | h | h
  · exact absurd h h1
  · exact absurd h h2
  · exact absurd h h3
  · exact Int32.not_le.mpr h
/-- what the constructor leaves: 0 0 1 1 2 2 .. -/
def ld_pre : Nat → List Nat
  | 0 => []
  | k + 1 => ld_pre k ++ [k] ++ [k]
theorem ld_pre_len (k : Nat) : (ld_pre k).length = 2 * k := by
  induction k with
  | zero => rfl
  | succ k ih =>
    unfold ld_pre
    rw [ld_len1, ld_len1, ih]
    omega
theorem ld_in102 {post : St2 → Prop} {mc ms kc ks : Nat} (hp : ∀ a1, ld_R 14 a1 (ld_pre 7) → post (fl, fr, fe, fq, a1, a2, a3, a4, a5, a6, a7, a8, a9, a10, a11, a12)) :
    ∀ (d k : Nat) (a1 : Nat → Int32), k + d = 7 → ld_R 14 a1 (ld_pre k) → wX_init_102 post mc ms kc ks fl fr fe fq (d + 1) (nI k) a1 a2 a3 a4 a5 a6 a7 a8 a9 a10 a11 a12 := by
  intro d
  induction d with
  | zero =>
    intro k a1 hk h
    obtain rfl : k = 7 := by omega
    exact br_t (nI_le (a := 7) (by omega) (by omega)) (hp a1 h)
  | succ d ih =>
    intro k a1 hk h
    have hl := ld_pre_len k
    have h1 := ld_R_app (v := k) h (by omega) (by omega)
    have h2 := ld_R_app (v := k) h1 (by rw [ld_len1]; omega) (by omega)
    rw [ld_len1, hl] at h2
    refine br_f (nI_ge (b := 7) (by omega) (by decide)) ?_
    rw [ld_two, show nI (2 * k) + 1 = nI (2 * k + 1) from nI_1 _, nI_clamp (by omega), nI_clamp (by omega)]
    exact ⟨ld_in (by omega), nm_e ⟨ld_in (by omega), nm_e (nm_r (nI_1 k) (ih (k + 1) _ (by omega) h2))⟩⟩
theorem ld_z7 : ∀ i v, ld_at [0, 0, 0, 0, 0, 0, 0] i = some v → v = 0 := by
  intro i v e
  have h := ld_at_lt e
  simp only [List.length_cons, List.length_nil] at h
  have c : i = 0 ∨ i = 1 ∨ i = 2 ∨ i = 3 ∨ i = 4 ∨ i = 5 ∨ i = 6 := by omega
  rcases c with rfl | rfl | rfl | rfl | rfl | rfl | rfl <;> exact (Option.some.inj e).symm
theorem ld_initW {post : St2 → Prop} {mc ms : Nat} (hc : 12 ≤ mc) (hs : 227 ≤ ms) (hp : ∀ u, ld_V (ld_pre 7) [0, 0, 0, 0, 0, 0, 0] u → post u) : wpX_init post mc ms (0, 0, 0, 0) := by
  unfold wpX_init
  refine ⟨by omega, by omega, by omega, by omega, by omega, by omega, by omega, by omega, by omega, by omega, by omega, by omega, by omega, by omega, by omega, by omega, by omega, by omega, by omega, by omega, by omega, by omega, by omega, by omega, 8, ?_⟩
  refine ld_in102 (fun a1 h1 => hp _ ⟨h1, ⟨by decide, fun i v e => ?_⟩, fun i v e => ?_⟩) 7 0 _ rfl (ld_R_nil 14 _)
  · have hv := ld_z7 i v e
    subst hv
    exact ⟨by decide, rfl⟩
  · have hv := ld_z7 i v e
    omega
end
end
section
/-! the law -/
abbrev ld_T1 : Nat × List Nat × List Nat × List Nat × List Nat := (3, [0, 2, 1], [1, 0, 1, 2, 1, 0], [0, 1, 2], [1, 2, 5])
abbrev ld_T2 : Nat × List Nat × List Nat × List Nat × List Nat := (4, [0, 2, 1, 3], [1, 0, 2, 3, 1, 3, 2, 0], [0, 1, 2, 3], [1, 2, 4, 5])
/-- what the law's last line rests on -/
def ld_F (H G : List Nat) (T : Nat × List Nat × List Nat × List Nat × List Nat) : Prop := ld_learn H G = some T ∧ ∃ f r, ld_at T.2.2.2.2 (T.1 - 1) = some f ∧ ld_walk T.2.2.1 f f.log2 f.log2 0 = some r ∧ 1 ≤ T.1 ∧ T.1 ≤ 7 ∧ T.1 ≤ f ∧ f ≤ 4095 ∧ r < 7 ∧ ld_ix T.2.2.2.1 r 0 = some (T.1 - 1) ∧ ld_ix T.2.2.2.1 0 0 = some 0
theorem ld_finE {H G : List Nat} (h : ld_fin H G = true) : ∃ T, ld_F H G T := by
  unfold ld_fin at h
  cases eT : ld_learn H G with
  | none => rw [eT] at h; exact nomatch h
  | some T =>
    rw [eT] at h
    dsimp only at h
    cases ef : ld_at T.2.2.2.2 (T.1 - 1) with
    | none => rw [ef] at h; exact nomatch h
    | some f =>
      rw [ef] at h
      dsimp only at h
      cases er : ld_walk T.2.2.1 f f.log2 f.log2 0 with
      | none => rw [er] at h; exact nomatch h
      | some r =>
        rw [er] at h
        exact ⟨T, eT, f, r, ef, er, of_decide_eq_true h⟩
theorem ld_tfE {f l t : Nat} (hf : f < 7) (hl : l < 2) (ht : t < 7) : ∃ T, ld_F (ld_H.set (2 * f + l) t) ld_G2 T := by
  have h := List.all_eq_true.mp ld_tf f (List.mem_range.mpr hf)
  have h := List.all_eq_true.mp h l (List.mem_range.mpr hl)
  have h := List.all_eq_true.mp h t (List.mem_range.mpr ht)
  exact ld_finE h
theorem ld_F2 : ld_F ld_H ld_G2 ld_T2 := ⟨ld_t2, 5, 3, rfl, by decide +kernel, by decide, by decide, by decide, by decide, by decide, rfl, rfl⟩
theorem ld_word {m : Nat} (hm : m < 2048) : ld_walk ld_T1.2.2.1 (2 * m + 1) (2 * m + 1).log2 (2 * m + 1).log2 0 = some (ld_X (2 * m + 1)) ∧ ld_good ld_H ld_G (2 * m + 1) = some (if ld_X (2 * m + 1) = 2 then 1 else 0) := of_decide_eq_true (List.all_eq_true.mp ld_tw m (List.mem_range.mpr hm))
theorem ld_X02 (w : Nat) : ld_X w = 0 ∨ ld_X w = 2 := by
  unfold ld_X
  split
  · exact Or.inl rfl
  · split
    · exact Or.inl rfl
    · split
      · exact Or.inr rfl
      · exact Or.inl rfl
theorem ld_sel {m : Nat} {P : Int32 → Prop} (hm : m < 2048) (h : P (nI (ld_X (2 * m + 1)))) :
    (nI (2 * m + 1) = 1 → P 0) ∧ (¬ nI (2 * m + 1) = 1 → (((nI (2 * m + 1) &&& 1) = 0 → P 1) ∧ (¬ (nI (2 * m + 1) &&& 1) = 0 → ((nI (2 * m + 1) ≤ 3 → P 0) ∧ (¬ nI (2 * m + 1) ≤ 3 → (((nI (2 * m + 1) &&& 3) = 1 → P 2) ∧ (¬ (nI (2 * m + 1) &&& 3) = 1 → P 0))))))) := by
  rw [ld_an1 (by omega), show (nI (2 * m + 1) &&& 3) = nI ((2 * m + 1) % 2 ^ 2) from pk_andN (by omega) 2 (by decide), show (2 * m + 1) % 2 = 1 by omega]
  unfold ld_X at h
  refine pk_eq (2 * m + 1) 1 (fun z => ?_) (fun z => ?_) rfl rfl (by omega) (by omega)
  · rw [if_pos z] at h
    exact h
  · rw [if_neg z] at h
    refine br_f (by decide) (pk_le (2 * m + 1) 3 (fun z => ?_) (fun z => ?_) rfl rfl (by omega) (by omega))
    · rw [if_pos z] at h
      exact h
    · rw [if_neg (by omega)] at h
      refine pk_eq ((2 * m + 1) % 2 ^ 2) 1 (fun z => ?_) (fun z => ?_) rfl rfl (by omega) (by omega)
      · rw [if_pos z] at h
        exact h
      · rw [if_neg z] at h
        exact h
theorem ld_wd (x : Int32) : ∃ m, m < 2048 ∧ 1 + (x &&& 4094) = nI (2 * m + 1) := by
  obtain ⟨n, hn, rfl⟩ := ld_of x
  have h1 : n &&& 4094 ≤ 4094 := Nat.and_le_right
  have h2 : (n &&& 4094) % 2 = 0 := by
    rw [Nat.and_mod_two_pow (n := 1) (a := n) (b := 4094) |> fun h => show (n &&& 4094) % 2 = _ from h]
    exact Nat.and_zero _
  refine ⟨(n &&& 4094) / 2, by omega, ?_⟩
  rw [show nI n &&& 4094 = nI (n &&& 4094) from ld_and n 4094, show 2 * ((n &&& 4094) / 2) + 1 = 1 + (n &&& 4094) by omega]
  exact nI_add 1 _
section
variable {fl fr fe fq : Int32} {a1 a2 a3 a4 a5 a6 a7 a8 a9 a10 a11 a12 : Nat → Int32} {post : Int32 → St0 → Prop} {mc ms kc ks : Nat} {H G : List Nat} {T : Nat × List Nat × List Nat × List Nat × List Nat}
theorem ld_lastW {pst : Int32 → St2 → Prop} (hF : ld_F H G T) (hS : ld_S H G T (fl, fr, fe, fq, a1, a2, a3, a4, a5, a6, a7, a8, a9, a10, a11, a12)) (hp : ∀ u, ld_S H G T u → pst 1 u) : wpL_last pst (fl, fr, fe, fq, a1, a2, a3, a4, a5, a6, a7, a8, a9, a10, a11, a12) (nI T.1) := by
  obtain ⟨eT, f, r, ef, er, h1, h7, hkf, hf, hr, ek, e0⟩ := hF
  have e1 : nI T.1 - 1 = nI (T.1 - 1) := pk_sub (b := 1) h1
  unfold wpL_last
  dsimp only
  rw [e1]
  refine ld_firstW eT hS (by omega) ef (fun u hS => ?_)
  obtain ⟨fl, fr, fe, fq, a1, a2, a3, a4, a5, a6, a7, a8, a9, a10, a11, a12⟩ := u
  refine ld_kindW eT hS (by omega) hf er hr ek (fun u hS => ?_)
  obtain ⟨fl, fr, fe, fq, a1, a2, a3, a4, a5, a6, a7, a8, a9, a10, a11, a12⟩ := u
  exact br_t rfl (hp _ hS)
theorem ld_779 (hF : ld_F H G T) (hS : ld_S H G T (fl, fr, fe, fq, a1, a2, a3, a4, a5, a6, a7, a8, a9, a10, a11, a12)) (hp : post 1 ()) : wL_lawOf_779 post mc ms (nI T.1) kc ks fl fr fe fq a1 a2 a3 a4 a5 a6 a7 a8 a9 a10 a11 a12 := by
  have hF' := hF
  obtain ⟨eT, f, r, ef, er, h1, h7, hkf, hf, hr, ek, e0⟩ := hF'
  have e1 : nI T.1 - 1 = nI (T.1 - 1) := pk_sub (b := 1) h1
  unfold wL_lawOf_779
  rw [e1]
  refine ld_firstN eT hS (Nat.le_refl _) (by omega) (fun u hS => ?_)
  obtain ⟨fl, fr, fe, fq, a1, a2, a3, a4, a5, a6, a7, a8, a9, a10, a11, a12⟩ := u
  refine br_t rfl (ld_firstW eT hS (by omega) ef (fun u hS => ?_))
  obtain ⟨fl, fr, fe, fq, a1, a2, a3, a4, a5, a6, a7, a8, a9, a10, a11, a12⟩ := u
  refine br_f (nI_nlt hkf (by omega)) (ld_lastW hF hS (fun u hS => ?_))
  obtain ⟨fl, fr, fe, fq, a1, a2, a3, a4, a5, a6, a7, a8, a9, a10, a11, a12⟩ := u
  exact br_f (by decide) hp
theorem ld_722 {x z : Int32} (hF : ld_F H G T) (hS : ld_S H G T (fl, fr, fe, fq, a1, a2, a3, a4, a5, a6, a7, a8, a9, a10, a11, a12)) (hx : x = 0 → T.1 = 4) (hp : post 1 ()) : wL_lawOf_722 post mc ms x z z kc ks fl fr fe fq a1 a2 a3 a4 a5 a6 a7 a8 a9 a10 a11 a12 := by
  have hF' := hF
  obtain ⟨eT, f, r, ef, er, h1, h7, hkf, hf, hr, ek, e0⟩ := hF'
  unfold wL_lawOf_722
  refine br_t rfl (ld_goodN ?_)
  refine br_t rfl (ld_kindsW eT hS (fun u hS => ?_))
  obtain ⟨fl, fr, fe, fq, a1, a2, a3, a4, a5, a6, a7, a8, a9, a10, a11, a12⟩ := u
  refine br_f (nI_nlt (b := 1) h1 (by omega)) (br_f (nI_nlt (a := 7) h7 (by decide)) ?_)
  refine ld_kindW (w := 1) (r := 0) (k := 0) eT hS (by decide) (by decide) rfl (by decide) e0 (fun u hS => ?_)
  obtain ⟨fl, fr, fe, fq, a1, a2, a3, a4, a5, a6, a7, a8, a9, a10, a11, a12⟩ := u
  refine br_t rfl (br_c (fun z => br_t ?_ (ld_779 hF hS hp)) (fun _ => ld_779 hF hS hp))
  rw [hx z]
  rfl
theorem ld_700 {x2 x3 x4 : Int32} (hS : ld_S ld_H ld_G2 ld_T2 (fl, fr, fe, fq, a1, a2, a3, a4, a5, a6, a7, a8, a9, a10, a11, a12)) (h : x3 < 0 ∨ 6 < x3 ∨ x4 < 0 ∨ 6 < x4) (hp : post 1 ()) : wL_lawOf_700 post mc ms x2 x3 x4 kc ks fl fr fe fq a1 a2 a3 a4 a5 a6 a7 a8 a9 a10 a11 a12 := by
  unfold wL_lawOf_700
  unfold wL_lawOf_701
  refine ld_arrowN h ?_
  exact br_t rfl (ld_722 ld_F2 hS (fun _ => rfl) hp)
theorem ld_674 {x2 x3 x4 : Int32} (hS : ld_S ld_H ld_G2 ld_T2 (fl, fr, fe, fq, a1, a2, a3, a4, a5, a6, a7, a8, a9, a10, a11, a12)) (hp : post 1 ()) : wL_lawOf_674 post mc ms x2 x3 x4 kc ks fl fr fe fq a1 a2 a3 a4 a5 a6 a7 a8 a9 a10 a11 a12 := by
  unfold wL_lawOf_674
  refine br_c (fun h => ld_700 hS (Or.inl h) hp) (fun h1 => br_c (fun h => ld_700 hS (Or.inr (Or.inl h)) hp) (fun h2 => br_c (fun h => ld_700 hS (Or.inr (Or.inr (Or.inl h))) hp) (fun h3 => br_c (fun h => ld_700 hS (Or.inr (Or.inr (Or.inr h))) hp) (fun h4 => ?_))))
  obtain ⟨f, hf, rfl⟩ := nI_of2 (M := 6) (n := 6) rfl h1 (Int32.not_lt.mp h2)
  obtain ⟨t, ht, rfl⟩ := nI_of2 (M := 6) (n := 6) rfl h3 (Int32.not_lt.mp h4)
  obtain ⟨b, hb, eb⟩ := pk_andE x2 (m := 1) 1 (by decide)
  obtain ⟨T, hF⟩ := ld_tfE (f := f) (l := b) (t := t) (by omega) (by omega) (by omega)
  unfold wL_lawOf_701
  refine ld_arrowW (ld_S_V hS) (by omega) (by omega) (by omega) eb (fun u hU => ?_)
  obtain ⟨fl, fr, fe, fq, a1, a2, a3, a4, a5, a6, a7, a8, a9, a10, a11, a12⟩ := u
  exact br_f (by decide) (ld_722 hF (Or.inr hU) (fun z => absurd z (by decide)) hp)
theorem ld_467 {x2 x3 x4 : Int32} {m n d : Nat} (hm : m < 2048) (hn : n < 2048) (hS : ld_S ld_H ld_G ld_T1 (fl, fr, fe, fq, a1, a2, a3, a4, a5, a6, a7, a8, a9, a10, a11, a12))
    (hd1 : ld_bfs ld_T1.2.1 ld_T1.2.1 ld_T1.2.2.1 ld_T1.2.2.1 50 0 [7 * ld_X (2 * m + 1) + ld_X (2 * n + 1)] [1] = some d) (hd2 : ld_bfs ld_T1.2.1 ld_T1.2.1 ld_T1.2.2.1 ld_T1.2.2.1 50 0 [7 * ld_X (2 * n + 1) + ld_X (2 * m + 1)] [1] = some d) (hp : post 1 ()) :
    wL_lawOf_467 post mc ms x2 x3 x4 (nI (2 * m + 1)) (nI (2 * n + 1)) (nI d) kc ks fl fr fe fq a1 a2 a3 a4 a5 a6 a7 a8 a9 a10 a11 a12 := by
  have hx := ld_X02 (2 * m + 1)
  have hy := ld_X02 (2 * n + 1)
  have ew := ld_word hm
  have ev := ld_word hn
  unfold wL_lawOf_467
  refine ld_diffW ld_t1 hS (by omega) (by omega) (by omega) (by omega) ew.1 ev.1 (by omega) hd1 (fun u hS => ?_)
  obtain ⟨fl, fr, fe, fq, a1, a2, a3, a4, a5, a6, a7, a8, a9, a10, a11, a12⟩ := u
  refine br_t rfl ?_
  refine ld_diffW ld_t1 hS (by omega) (by omega) (by omega) (by omega) ev.1 ew.1 (by omega) hd2 (fun u hS => ?_)
  obtain ⟨fl, fr, fe, fq, a1, a2, a3, a4, a5, a6, a7, a8, a9, a10, a11, a12⟩ := u
  refine br_t rfl ?_
  refine ld_diffN2 hS (by omega) (by omega) (fun u hS => ?_)
  obtain ⟨fl, fr, fe, fq, a1, a2, a3, a4, a5, a6, a7, a8, a9, a10, a11, a12⟩ := u
  refine br_t rfl ?_
  refine ld_diffN1 hS (fun u hS => ?_)
  obtain ⟨fl, fr, fe, fq, a1, a2, a3, a4, a5, a6, a7, a8, a9, a10, a11, a12⟩ := u
  refine br_t rfl ?_
  refine ld_goodW (s := 3) (ld_S_V hS) (by decide) (fun u hU => ?_)
  obtain ⟨fl, fr, fe, fq, a1, a2, a3, a4, a5, a6, a7, a8, a9, a10, a11, a12⟩ := u
  refine br_t rfl ?_
  have hS : ld_S ld_H ld_G2 ld_T2 (fl, fr, fe, fq, a1, a2, a3, a4, a5, a6, a7, a8, a9, a10, a11, a12) := Or.inr hU
  refine ld_kindsW ld_t2 hS (fun u hS => ?_)
  obtain ⟨fl, fr, fe, fq, a1, a2, a3, a4, a5, a6, a7, a8, a9, a10, a11, a12⟩ := u
  refine br_t rfl ?_
  refine ld_firstW (k := 1) (f := 2) ld_t2 hS (by decide) rfl (fun u hS => ?_)
  obtain ⟨fl, fr, fe, fq, a1, a2, a3, a4, a5, a6, a7, a8, a9, a10, a11, a12⟩ := u
  refine br_t rfl ?_
  refine ld_firstW (k := 2) (f := 4) ld_t2 hS (by decide) rfl (fun u hS => ?_)
  obtain ⟨fl, fr, fe, fq, a1, a2, a3, a4, a5, a6, a7, a8, a9, a10, a11, a12⟩ := u
  refine br_t rfl ?_
  refine ld_firstW (k := 3) (f := 5) ld_t2 hS (by decide) rfl (fun u hS => ?_)
  obtain ⟨fl, fr, fe, fq, a1, a2, a3, a4, a5, a6, a7, a8, a9, a10, a11, a12⟩ := u
  refine br_t rfl ?_
  refine ld_kindW (w := 4) (r := 2) (k := 2) ld_t2 hS (by decide) (by decide) (by decide +kernel) (by decide) rfl (fun u hS => ?_)
  obtain ⟨fl, fr, fe, fq, a1, a2, a3, a4, a5, a6, a7, a8, a9, a10, a11, a12⟩ := u
  refine br_t rfl ?_
  refine ld_diffW (w := 2) (v := 4) (a := 1) (b := 2) (r := 1) ld_t2 hS (by decide) (by decide) (by decide) (by decide) (by decide +kernel) (by decide +kernel) (by decide) (by decide +kernel) (fun u hS => ?_)
  obtain ⟨fl, fr, fe, fq, a1, a2, a3, a4, a5, a6, a7, a8, a9, a10, a11, a12⟩ := u
  refine br_t rfl ?_
  refine ld_nextW (k := 2) (r := 2) (b := 0) (x := 1) (j := 1) ld_t2 hS (by decide) rfl (by decide) rfl (by decide) rfl (fun u hS => ?_)
  obtain ⟨fl, fr, fe, fq, a1, a2, a3, a4, a5, a6, a7, a8, a9, a10, a11, a12⟩ := u
  refine br_t rfl ?_
  refine ld_nextW (k := 3) (r := 3) (b := 0) (x := 2) (j := 2) ld_t2 hS (by decide) rfl (by decide) rfl (by decide) rfl (fun u hS => ?_)
  obtain ⟨fl, fr, fe, fq, a1, a2, a3, a4, a5, a6, a7, a8, a9, a10, a11, a12⟩ := u
  refine br_t rfl ?_
  refine ld_diffW (w := 1) (v := 5) (a := 0) (b := 3) (r := 1) ld_t2 hS (by decide) (by decide) (by decide) (by decide) (by decide +kernel) (by decide +kernel) (by decide) (by decide +kernel) (fun u hS => ?_)
  obtain ⟨fl, fr, fe, fq, a1, a2, a3, a4, a5, a6, a7, a8, a9, a10, a11, a12⟩ := u
  refine br_t rfl ?_
  refine ld_askW (w := 4) (g := 1) hS (by decide) (by decide) (by decide +kernel) (br_t rfl ?_)
  refine ld_askW (w := 8) (g := 0) hS (by decide) (by decide) (by decide +kernel) (br_t rfl ?_)
  refine ld_askW (w := 10) (g := 1) hS (by decide) (by decide) (by decide +kernel) (br_t rfl ?_)
  exact ld_674 hS hp
theorem ld_262 {x2 x3 x4 z : Int32} {m n : Nat} (hm : m < 2048) (hn : n < 2048) (hS : ld_S ld_H ld_G ld_T1 (fl, fr, fe, fq, a1, a2, a3, a4, a5, a6, a7, a8, a9, a10, a11, a12)) (hp : post 1 ()) :
    wL_lawOf_262 post mc ms x2 x3 x4 (nI (2 * m + 1)) (nI (2 * n + 1)) (nI (ld_X (2 * m + 1))) (nI (ld_X (2 * n + 1))) z z kc ks fl fr fe fq a1 a2 a3 a4 a5 a6 a7 a8 a9 a10 a11 a12 := by
  have hx := ld_X02 (2 * m + 1)
  have hy := ld_X02 (2 * n + 1)
  have ew := ld_word hm
  have ev := ld_word hn
  have ix : ∀ r, r = 0 ∨ r = 2 → ld_ix ld_T1.2.2.2.1 r 0 = some r := by
    intro r h
    rcases h with rfl | rfl <;> rfl
  unfold wL_lawOf_262
  refine br_t rfl ?_
  refine ld_kindW ld_t1 hS (by omega) (by omega) ew.1 (by omega) (ix _ hx) (fun u hS => ?_)
  obtain ⟨fl, fr, fe, fq, a1, a2, a3, a4, a5, a6, a7, a8, a9, a10, a11, a12⟩ := u
  refine br_t rfl ?_
  refine ld_kindW ld_t1 hS (by omega) (by omega) ev.1 (by omega) (ix _ hy) (fun u hS => ?_)
  obtain ⟨fl, fr, fe, fq, a1, a2, a3, a4, a5, a6, a7, a8, a9, a10, a11, a12⟩ := u
  refine br_t rfl ?_
  refine ld_firstW (k := 0) (f := 1) ld_t1 hS (by decide) rfl (fun u hS => ?_)
  obtain ⟨fl, fr, fe, fq, a1, a2, a3, a4, a5, a6, a7, a8, a9, a10, a11, a12⟩ := u
  refine br_t rfl ?_
  refine ld_firstW (k := 1) (f := 2) ld_t1 hS (by decide) rfl (fun u hS => ?_)
  obtain ⟨fl, fr, fe, fq, a1, a2, a3, a4, a5, a6, a7, a8, a9, a10, a11, a12⟩ := u
  refine br_t rfl ?_
  refine ld_firstW (k := 2) (f := 5) ld_t1 hS (by decide) rfl (fun u hS => ?_)
  obtain ⟨fl, fr, fe, fq, a1, a2, a3, a4, a5, a6, a7, a8, a9, a10, a11, a12⟩ := u
  refine br_t rfl ?_
  refine ld_firstN (k := 3) ld_t1 hS (by decide) (by decide) (fun u hS => ?_)
  obtain ⟨fl, fr, fe, fq, a1, a2, a3, a4, a5, a6, a7, a8, a9, a10, a11, a12⟩ := u
  refine br_t rfl ?_
  refine ld_isGoodW (k := 2) (r := 2) (a := 1) ld_t1 hS (by decide) rfl rfl (fun u hS => ?_)
  obtain ⟨fl, fr, fe, fq, a1, a2, a3, a4, a5, a6, a7, a8, a9, a10, a11, a12⟩ := u
  refine br_t rfl ?_
  refine ld_isGoodW (k := 1) (r := 1) (a := 2) ld_t1 hS (by decide) rfl rfl (fun u hS => ?_)
  obtain ⟨fl, fr, fe, fq, a1, a2, a3, a4, a5, a6, a7, a8, a9, a10, a11, a12⟩ := u
  refine br_t rfl ?_
  refine ld_isGoodN (k := 3) ld_t1 hS (by decide) (by decide) (fun u hS => ?_)
  obtain ⟨fl, fr, fe, fq, a1, a2, a3, a4, a5, a6, a7, a8, a9, a10, a11, a12⟩ := u
  refine br_t rfl ?_
  refine ld_nextW (k := 0) (r := 0) (b := 0) (x := 1) (j := 1) ld_t1 hS (by decide) rfl (by decide) rfl (by decide) rfl (fun u hS => ?_)
  obtain ⟨fl, fr, fe, fq, a1, a2, a3, a4, a5, a6, a7, a8, a9, a10, a11, a12⟩ := u
  refine br_t rfl ?_
  refine ld_nextW (k := 0) (r := 0) (b := 1) (x := 0) (j := 0) ld_t1 hS (by decide) rfl (by decide) rfl (by decide) rfl (fun u hS => ?_)
  obtain ⟨fl, fr, fe, fq, a1, a2, a3, a4, a5, a6, a7, a8, a9, a10, a11, a12⟩ := u
  refine br_t rfl ?_
  refine ld_nextW (k := 1) (r := 1) (b := 0) (x := 1) (j := 1) ld_t1 hS (by decide) rfl (by decide) rfl (by decide) rfl (fun u hS => ?_)
  obtain ⟨fl, fr, fe, fq, a1, a2, a3, a4, a5, a6, a7, a8, a9, a10, a11, a12⟩ := u
  refine br_t rfl ?_
  refine ld_nextW (k := 1) (r := 1) (b := 1) (x := 2) (j := 2) ld_t1 hS (by decide) rfl (by decide) rfl (by decide) rfl (fun u hS => ?_)
  obtain ⟨fl, fr, fe, fq, a1, a2, a3, a4, a5, a6, a7, a8, a9, a10, a11, a12⟩ := u
  refine br_t rfl ?_
  refine ld_nextW (k := 2) (r := 2) (b := 0) (x := 1) (j := 1) ld_t1 hS (by decide) rfl (by decide) rfl (by decide) rfl (fun u hS => ?_)
  obtain ⟨fl, fr, fe, fq, a1, a2, a3, a4, a5, a6, a7, a8, a9, a10, a11, a12⟩ := u
  refine br_t rfl ?_
  refine ld_nextW (k := 2) (r := 2) (b := 1) (x := 0) (j := 0) ld_t1 hS (by decide) rfl (by decide) rfl (by decide) rfl (fun u hS => ?_)
  obtain ⟨fl, fr, fe, fq, a1, a2, a3, a4, a5, a6, a7, a8, a9, a10, a11, a12⟩ := u
  refine br_t rfl ?_
  refine ld_nextN ld_t1 hS (fun u hS => ?_)
  obtain ⟨fl, fr, fe, fq, a1, a2, a3, a4, a5, a6, a7, a8, a9, a10, a11, a12⟩ := u
  refine br_t rfl ?_
  have key : ∀ d, ld_bfs ld_T1.2.1 ld_T1.2.1 ld_T1.2.2.1 ld_T1.2.2.1 50 0 [7 * ld_X (2 * m + 1) + ld_X (2 * n + 1)] [1] = some d → ld_bfs ld_T1.2.1 ld_T1.2.1 ld_T1.2.2.1 ld_T1.2.2.1 50 0 [7 * ld_X (2 * n + 1) + ld_X (2 * m + 1)] [1] = some d → wL_lawOf_467 post mc ms x2 x3 x4 (nI (2 * m + 1)) (nI (2 * n + 1)) (nI d) kc ks fl fr fe fq a1 a2 a3 a4 a5 a6 a7 a8 a9 a10 a11 a12 := fun d h1 h2 => ld_467 hm hn hS h1 h2 hp
  rcases hx with hx | hx <;> rcases hy with hy | hy <;> rw [hx, hy] at key ⊢
  · exact br_t rfl (key 0 (by decide +kernel) (by decide +kernel))
  · exact br_f (by decide) (br_f (by decide) (br_t rfl (key 1 (by decide +kernel) (by decide +kernel))))
  · exact br_f (by decide) (br_t rfl (key 1 (by decide +kernel) (by decide +kernel)))
  · exact br_t rfl (key 0 (by decide +kernel) (by decide +kernel))
theorem ld_233 {x2 x3 x4 : Int32} {m n : Nat} (hm : m < 2048) (hn : n < 2048) (hU : ld_U ld_H ld_G (fl, fr, fe, fq, a1, a2, a3, a4, a5, a6, a7, a8, a9, a10, a11, a12)) (hp : post 1 ()) :
    wL_lawOf_233 post mc ms x2 x3 x4 (nI (2 * m + 1)) (nI (2 * n + 1)) (nI (ld_X (2 * m + 1))) (nI (ld_X (2 * n + 1))) kc ks fl fr fe fq a1 a2 a3 a4 a5 a6 a7 a8 a9 a10 a11 a12 := by
  have hx := ld_X02 (2 * m + 1)
  have ew := ld_word hm
  have hS : ld_S ld_H ld_G ld_T1 (fl, fr, fe, fq, a1, a2, a3, a4, a5, a6, a7, a8, a9, a10, a11, a12) := Or.inr hU
  unfold wL_lawOf_233
  refine ld_kindsW ld_t1 hS (fun u hS => ?_)
  obtain ⟨fl, fr, fe, fq, a1, a2, a3, a4, a5, a6, a7, a8, a9, a10, a11, a12⟩ := u
  refine br_t rfl ?_
  refine ld_askW hS (by omega) (by omega) ew.2 ?_
  have key : ∀ z, wL_lawOf_262 post mc ms x2 x3 x4 (nI (2 * m + 1)) (nI (2 * n + 1)) (nI (ld_X (2 * m + 1))) (nI (ld_X (2 * n + 1))) z z kc ks fl fr fe fq a1 a2 a3 a4 a5 a6 a7 a8 a9 a10 a11 a12 := fun z => ld_262 hm hn hS hp
  rcases hx with hx | hx <;> rw [hx] at key ⊢
  · exact br_f (by decide) (key _)
  · exact br_t rfl (key _)
theorem ld_191 {x2 x3 x4 : Int32} {m n : Nat} (hm : m < 2048) (hn : n < 2048) (hU : ld_U ld_H ld_G (fl, fr, fe, fq, a1, a2, a3, a4, a5, a6, a7, a8, a9, a10, a11, a12)) (hp : post 1 ()) :
    wL_lawOf_191 post mc ms x2 x3 x4 (nI (2 * m + 1)) (nI (2 * n + 1)) (nI (ld_X (2 * m + 1))) kc ks fl fr fe fq a1 a2 a3 a4 a5 a6 a7 a8 a9 a10 a11 a12 := by
  unfold wL_lawOf_191
  exact ld_sel (P := fun y => wL_lawOf_233 post mc ms x2 x3 x4 (nI (2 * m + 1)) (nI (2 * n + 1)) (nI (ld_X (2 * m + 1))) y kc ks fl fr fe fq a1 a2 a3 a4 a5 a6 a7 a8 a9 a10 a11 a12) hn (ld_233 hm hn hU hp)
theorem ld_lawOf {p0 p1 p2 p3 p4 : Int32} (hp : post 1 ()) : wpL_lawOf post 132 2096 () p0 p1 p2 p3 p4 := by
  obtain ⟨m, hm, em⟩ := ld_wd p0
  obtain ⟨n, hn, en⟩ := ld_wd p1
  unfold wpL_lawOf
  rw [em, en]
  refine ⟨by decide, by decide, 12, 227, by decide, by decide, ld_initW (by decide) (by decide) (fun u hV => ?_)⟩
  obtain ⟨fl, fr, fe, fq, a1, a2, a3, a4, a5, a6, a7, a8, a9, a10, a11, a12⟩ := u
  refine ld_arrowW (f := 0) (t := 1) (b := 0) hV (by decide) (by decide) (by decide) (by decide) (fun u hU => ?_)
  obtain ⟨fl, fr, fe, fq, a1, a2, a3, a4, a5, a6, a7, a8, a9, a10, a11, a12⟩ := u
  refine br_t rfl ?_
  have hV := ld_U_V hU
  refine ld_arrowW (f := 0) (t := 0) (b := 1) hV (by decide) (by decide) (by decide) (by decide) (fun u hU => ?_)
  obtain ⟨fl, fr, fe, fq, a1, a2, a3, a4, a5, a6, a7, a8, a9, a10, a11, a12⟩ := u
  refine br_t rfl ?_
  have hV := ld_U_V hU
  refine ld_arrowW (f := 1) (t := 3) (b := 0) hV (by decide) (by decide) (by decide) (by decide) (fun u hU => ?_)
  obtain ⟨fl, fr, fe, fq, a1, a2, a3, a4, a5, a6, a7, a8, a9, a10, a11, a12⟩ := u
  refine br_t rfl ?_
  have hV := ld_U_V hU
  refine ld_arrowW (f := 1) (t := 2) (b := 1) hV (by decide) (by decide) (by decide) (by decide) (fun u hU => ?_)
  obtain ⟨fl, fr, fe, fq, a1, a2, a3, a4, a5, a6, a7, a8, a9, a10, a11, a12⟩ := u
  refine br_t rfl ?_
  have hV := ld_U_V hU
  refine ld_arrowW (f := 3) (t := 1) (b := 0) hV (by decide) (by decide) (by decide) (by decide) (fun u hU => ?_)
  obtain ⟨fl, fr, fe, fq, a1, a2, a3, a4, a5, a6, a7, a8, a9, a10, a11, a12⟩ := u
  refine br_t rfl ?_
  have hV := ld_U_V hU
  refine ld_arrowW (f := 3) (t := 2) (b := 1) hV (by decide) (by decide) (by decide) (by decide) (fun u hU => ?_)
  obtain ⟨fl, fr, fe, fq, a1, a2, a3, a4, a5, a6, a7, a8, a9, a10, a11, a12⟩ := u
  refine br_t rfl ?_
  have hV := ld_U_V hU
  refine ld_arrowW (f := 2) (t := 3) (b := 0) hV (by decide) (by decide) (by decide) (by decide) (fun u hU => ?_)
  obtain ⟨fl, fr, fe, fq, a1, a2, a3, a4, a5, a6, a7, a8, a9, a10, a11, a12⟩ := u
  refine br_t rfl ?_
  have hV := ld_U_V hU
  refine ld_arrowW (f := 2) (t := 5) (b := 1) hV (by decide) (by decide) (by decide) (by decide) (fun u hU => ?_)
  obtain ⟨fl, fr, fe, fq, a1, a2, a3, a4, a5, a6, a7, a8, a9, a10, a11, a12⟩ := u
  refine br_t rfl ?_
  have hV := ld_U_V hU
  refine ld_arrowW (f := 5) (t := 0) (b := 1) hV (by decide) (by decide) (by decide) (by decide) (fun u hU => ?_)
  obtain ⟨fl, fr, fe, fq, a1, a2, a3, a4, a5, a6, a7, a8, a9, a10, a11, a12⟩ := u
  refine br_t rfl ?_
  have hV := ld_U_V hU
  refine ld_arrowW (f := 5) (t := 1) (b := 0) hV (by decide) (by decide) (by decide) (by decide) (fun u hU => ?_)
  obtain ⟨fl, fr, fe, fq, a1, a2, a3, a4, a5, a6, a7, a8, a9, a10, a11, a12⟩ := u
  refine br_t rfl ?_
  have hV := ld_U_V hU
  refine ld_goodW (s := 2) hV (by decide) (fun u hU => ?_)
  obtain ⟨fl, fr, fe, fq, a1, a2, a3, a4, a5, a6, a7, a8, a9, a10, a11, a12⟩ := u
  refine br_t rfl ?_
  have hU : ld_U ld_H ld_G (fl, fr, fe, fq, a1, a2, a3, a4, a5, a6, a7, a8, a9, a10, a11, a12) := hU
  refine nm_e (nm_e ?_)
  exact ld_sel (P := fun y => wL_lawOf_191 post 132 2096 p2 p3 p4 (nI (2 * m + 1)) (nI (2 * n + 1)) y (1 + 12) (16 + 227) fl fr fe fq a1 a2 a3 a4 a5 a6 a7 a8 a9 a10 a11 a12) hm (ld_191 hm hn hU hp)
end
theorem ld_cell {post : Int32 → Prop} {L i : Nat} {xs : Nat → Int32} (hL : L ≤ 5) (hi : i < 5) (hp : ∀ r, post r) : wpL_cellAt post L xs () (nI i) := by
  unfold wpL_cellAt
  refine br_c (fun _ => hp _) (fun z => ⟨vp_in_nI ?_ (by omega), hp _⟩)
  rcases Nat.lt_or_ge i L with h | h
  · exact h
  · exact absurd (nI_le h (by omega)) z
theorem i_vc (xs : Nat → Int32) (L : Nat) (hL : L ≤ 5) : wpL_law (fun r => r = 1) L xs := by
  unfold wpL_law
  refine ld_cell (i := 0) hL (by decide) (fun r1 => ld_cell (i := 1) hL (by decide) (fun r2 => ld_cell (i := 2) hL (by decide) (fun r3 => ld_cell (i := 3) hL (by decide) (fun r4 => ld_cell (i := 4) hL (by decide) (fun r5 => ?_)))))
  exact ⟨132, 2096, by decide, by decide, ld_lawOf rfl⟩
end
