section
/-! the pure picture: lists, nets, patterns of rooms, longest ways, the run -/
def cp_g {α : Type} (d : α) : List α → Nat → α
  | [], _ => d
  | a :: _, 0 => a
  | _ :: t, n + 1 => cp_g d t n
def cp_s {α : Type} : List α → Nat → α → List α
  | [], _, _ => []
  | _ :: t, 0, x => x :: t
  | a :: t, n + 1, x => a :: cp_s t n x
def cp_e {α : Type} : List α → Nat → List α
  | [], _ => []
  | _ :: t, 0 => t
  | a :: t, n + 1 => a :: cp_e t n
theorem cp_len_s {α : Type} (l : List α) : ∀ (b : Nat) (v : α), (cp_s l b v).length = l.length := by
  induction l with
  | nil => intro b v; rfl
  | cons a t ih =>
    intro b v
    cases b with
    | zero => rfl
    | succ n => simp only [cp_s, List.length_cons, ih]
theorem cp_g_s {α : Type} {d : α} (l : List α) : ∀ (b j : Nat) (v : α), b < l.length → cp_g d (cp_s l b v) j = if j = b then v else cp_g d l j := by
  induction l with
  | nil => intro b j v h; exact absurd h (by simp)
  | cons a t ih =>
    intro b j v h
    cases b with
    | zero => cases j with
      | zero => rfl
      | succ j => simp only [cp_s, cp_g]; rw [if_neg (by omega)]
    | succ n => cases j with
      | zero => simp only [cp_s, cp_g]; rw [if_neg (by omega)]
      | succ j =>
        simp only [cp_s, cp_g]
        rw [ih n j v (by simpa using h)]
        by_cases e : j = n
        · rw [if_pos e, if_pos (by omega)]
        · rw [if_neg e, if_neg (by omega)]
theorem cp_g_lt {α : Type} {d : α} (l m : List α) : ∀ j : Nat, j < l.length → cp_g d (l ++ m) j = cp_g d l j := by
  induction l with
  | nil => intro j h; exact absurd h (by simp)
  | cons a t ih =>
    intro j h
    cases j with
    | zero => rfl
    | succ j => exact ih j (by simpa using h)
theorem cp_g_eq {α : Type} {d x : α} (l : List α) : cp_g d (l ++ [x]) l.length = x := by
  induction l with
  | nil => rfl
  | cons a t ih => exact ih
theorem cp_g_e {α : Type} {d : α} (l : List α) : ∀ (i j : Nat), cp_g d (cp_e l i) j = if j < i then cp_g d l j else cp_g d l (j + 1) := by
  induction l with
  | nil => intro i j; by_cases h : j < i <;> simp [cp_e, cp_g]
  | cons a t ih =>
    intro i j
    cases i with
    | zero => rw [if_neg (by omega)]; rfl
    | succ i => cases j with
      | zero => rw [if_pos (by omega)]; rfl
      | succ j =>
        simp only [cp_e, cp_g]
        rw [ih i j]
        by_cases h : j < i
        · rw [if_pos h, if_pos (by omega)]
        · rw [if_neg h, if_neg (by omega)]
theorem cp_len_e {α : Type} (l : List α) : ∀ i : Nat, i < l.length → (cp_e l i).length + 1 = l.length := by
  induction l with
  | nil => intro i h; exact absurd h (by simp)
  | cons a t ih =>
    intro i h
    cases i with
    | zero => rfl
    | succ i =>
      have := ih i (by simpa using h)
      simp only [cp_e, List.length_cons]
      omega
/-! forcing: the kernel goes on with values -/
def cp_fB {α : Type} (b : Bool) (k : Bool → α) : α := match b with
  | true => k true
  | false => k false
def cp_fN {α : Type} (n : Nat) (k : Nat → α) : α := match n with
  | 0 => k 0
  | m + 1 => k (m + 1)
def cp_fL {α : Type} : List Nat → (List Nat → α) → α
  | [], k => k []
  | a :: t, k => cp_fN a fun a => cp_fL t fun t => k (a :: t)
def cp_fP {α : Type} : List (Bool × Bool) → (List (Bool × Bool) → α) → α
  | [], k => k []
  | (a, b) :: t, k => cp_fB a fun a => cp_fB b fun b => cp_fP t fun t => k ((a, b) :: t)
theorem cp_fB_eq {α : Type} (b : Bool) (k : Bool → α) : cp_fB b k = k b := by cases b <;> rfl
theorem cp_fN_eq {α : Type} (n : Nat) (k : Nat → α) : cp_fN n k = k n := by cases n <;> rfl
theorem cp_fL_eq {α : Type} (l : List Nat) : ∀ k : List Nat → α, cp_fL l k = k l := by
  induction l with
  | nil => intro k; rfl
  | cons a t ih =>
    intro k
    simp only [cp_fL, cp_fN_eq, ih]
theorem cp_fP_eq {α : Type} (l : List (Bool × Bool)) : ∀ k : List (Bool × Bool) → α, cp_fP l k = k l := by
  induction l with
  | nil => intro k; rfl
  | cons a t ih =>
    intro k
    obtain ⟨a, b⟩ := a
    simp only [cp_fP, cp_fB_eq, ih]
/-! nets: a job's from, to, slow, fast; its price beside -/
abbrev cp_Sh : Type := Nat × Nat × Nat × Nat
def cp_at (S : List cp_Sh) (j : Nat) : cp_Sh := cp_g (0, 0, 0, 0) S j
def cp_fr (S : List cp_Sh) (j : Nat) : Nat := (cp_at S j).1
def cp_to (S : List cp_Sh) (j : Nat) : Nat := (cp_at S j).2.1
def cp_sl (S : List cp_Sh) (j : Nat) : Nat := (cp_at S j).2.2.1
def cp_fa (S : List cp_Sh) (j : Nat) : Nat := (cp_at S j).2.2.2
def cp_len (S : List cp_Sh) (l : Nat) : Nat := if l % 2 = 0 then cp_sl S (l / 2) else cp_fa S (l / 2)
def cp_tl (S : List cp_Sh) (l : Nat) (b : Bool) : Nat := if b = true then cp_to S (l / 2) else cp_fr S (l / 2)
def cp_hd (S : List cp_Sh) (l : Nat) (b : Bool) : Nat := if b = true then cp_fr S (l / 2) else cp_to S (l / 2)
/-- a pattern: which rooms aren't 0 -/
def cp_R (P : List (Bool × Bool)) (l : Nat) (b : Bool) : Bool := if b = true then (cp_g (false, false) P l).2 else (cp_g (false, false) P l).1
/-- one stretch: Lo v = 10000 + longest (0: not reached), La v = lastLine -/
def cp_st3 (b : Bool) (l h L : Nat) (Lo La : List Nat) : Bool × List Nat × List Nat :=
  if L ≤ cp_g 0 Lo h then (false, Lo, La) else cp_fL (cp_s Lo h L) fun X => cp_fL (cp_s La h (if b = true then l + 28 else l)) fun Y => (true, X, Y)
def cp_st2 (S : List cp_Sh) (l : Nat) (b : Bool) (h A : Nat) (Lo La : List Nat) : Bool × List Nat × List Nat :=
  if h = 0 then (false, Lo, La) else if A = 0 then (false, Lo, La) else cp_st3 b l h (if b = true then A - cp_len S l else A + cp_len S l) Lo La
def cp_st (S : List cp_Sh) (P : List (Bool × Bool)) (l : Nat) (b : Bool) (Lo La : List Nat) : Bool × List Nat × List Nat :=
  if cp_R P l b = true then cp_st2 S l b (cp_hd S l b) (cp_g 0 Lo (cp_tl S l b)) Lo La else (false, Lo, La)
def cp_round (S : List cp_Sh) (P : List (Bool × Bool)) : Nat → Nat → Bool → List Nat → List Nat → Bool × List Nat × List Nat
  | 0, _, ch, Lo, La => (ch, Lo, La)
  | n + 1, l, ch, Lo, La => match cp_st S P l false Lo La with
    | (c1, Lo1, La1) => match cp_st S P l true Lo1 La1 with
      | (c2, Lo2, La2) => cp_round S P n (l + 1) (c2 || (c1 || ch)) Lo2 La2
def cp_rounds (S : List cp_Sh) (P : List (Bool × Bool)) : Nat → List Nat → List Nat → List Nat × List Nat
  | 0, Lo, La => (Lo, La)
  | n + 1, Lo, La => match cp_round S P (2 * S.length) 0 false Lo La with
    | (ch, Lo1, La1) => if ch = true then cp_rounds S P n Lo1 La1 else (Lo1, La1)
def cp_fl (S : List cp_Sh) (P : List (Bool × Bool)) : List Nat × List Nat := cp_rounds S P 6 [10000, 0, 0, 0, 0, 0] [0, 0, 0, 0, 0, 0]
/-- the way back from event v to event 0 -/
def cp_way (S : List cp_Sh) (Lo La : List Nat) : Nat → Nat → Option (List (Nat × Bool))
  | 0, v => if v = 0 then some [] else none
  | n + 1, v => if v = 0 then some [] else if cp_g 0 Lo v = 0 then none else
    if cp_g 0 La v < 28 then (if cp_g 0 La v < 2 * S.length then (match cp_way S Lo La n (cp_fr S (cp_g 0 La v / 2)) with
        | none => none
        | some W => some ((cp_g 0 La v, false) :: W)) else none)
    else (if cp_g 0 La v - 28 < 2 * S.length then (match cp_way S Lo La n (cp_to S ((cp_g 0 La v - 28) / 2)) with
        | none => none
        | some W => some ((cp_g 0 La v - 28, true) :: W)) else none)
/-- the longest way under a pattern: 10000 + its length (0: none), its lines from the end -/
def cp_find (S : List cp_Sh) (P : List (Bool × Bool)) : Option (Nat × List (Nat × Bool)) := match cp_fl S P with
  | (Lo, La) => if cp_g 0 Lo 5 = 0 then some (0, []) else match cp_way S Lo La 6 5 with
    | none => none
    | some W => some (cp_g 0 Lo 5, W)
/-! rooms and flows -/
def cp_rn (p f : List Nat) (l : Nat) (b : Bool) : Nat := if b = true then cp_g 0 f l else if l % 2 = 0 then cp_g 0 p (l / 2) - cp_g 0 f l else 1000000
def cp_pat (p f : List Nat) : Nat → Nat → List (Bool × Bool)
  | 0, _ => []
  | n + 1, l => (decide (cp_rn p f l false ≠ 0), decide (cp_rn p f l true ≠ 0)) :: cp_pat p f n (l + 1)
def cp_wd (p f : List Nat) : List (Nat × Bool) → Nat → Nat
  | [], w => w
  | (l, b) :: W, w => cp_wd p f W (if w ≤ cp_rn p f l b then w else cp_rn p f l b)
def cp_put (p : List Nat) (w : Nat) : List (Nat × Bool) → List Nat → Option (List Nat)
  | [], f => some f
  | (l, b) :: W, f => if b = true then (if w ≤ cp_g 0 f l then cp_fL (cp_s f l (cp_g 0 f l - w)) fun g => cp_put p w W g else none)
    else (if cp_g 0 f l + w ≤ (if l % 2 = 0 then cp_g 0 p (l / 2) else 1000000000) then cp_fL (cp_s f l (cp_g 0 f l + w)) fun g => cp_put p w W g else none)
/-- sendAll's ways: length and amount -/
def cp_run (S : List cp_Sh) (p : List Nat) : Nat → List Nat → Option (List (Nat × Nat))
  | 0, _ => none
  | n + 1, f => cp_fP (cp_pat p f (2 * S.length) 0) fun P => match cp_find S P with
    | none => none
    | some (A, W) => if A = 0 then some [] else if A < 10000 then none else cp_fN (cp_wd p f W 1000000) fun w =>
      if 1000000 ≤ w then some [(A - 10000, w)] else match cp_put p w W f with
        | none => none
        | some g => match cp_run S p n g with
          | none => none
          | some V => some ((A - 10000, w) :: V)
def cp_z14 : List Nat := [0, 0, 0, 0, 0, 0, 0, 0, 0, 0, 0, 0, 0, 0]
/-- costFor; none: -1 -/
def cp_cst : List (Nat × Nat) → Nat → Nat → Option Nat
  | [], _, s => some s
  | (a, w) :: W, t, s => if a ≤ t then cp_cst W t s else if w < 1000000 then cp_cst W t (s + w * (a - t)) else none
theorem cp_run_end {S : List cp_Sh} {p f : List Nat} {n : Nat} {W : List (Nat × Bool)} (h : cp_find S (cp_pat p f (2 * S.length) 0) = some (0, W)) : cp_run S p (n + 1) f = some [] := by
  rw [cp_run, cp_fP_eq, h]
  rfl
theorem cp_run_last {S : List cp_Sh} {p f : List Nat} {n a : Nat} {W : List (Nat × Bool)} (h : cp_find S (cp_pat p f (2 * S.length) 0) = some (10000 + a, W)) (hw : cp_wd p f W 1000000 = 1000000) : cp_run S p (n + 1) f = some [(a, 1000000)] := by
  rw [cp_run, cp_fP_eq, h]
  dsimp only
  rw [if_neg (by omega), if_neg (by omega), cp_fN_eq, hw, if_pos (by omega), Nat.add_sub_cancel_left]
theorem cp_run_step {S : List cp_Sh} {p f g : List Nat} {n a w : Nat} {W : List (Nat × Bool)} {V : List (Nat × Nat)} (h : cp_find S (cp_pat p f (2 * S.length) 0) = some (10000 + a, W)) (hw : cp_wd p f W 1000000 = w) (hl : w < 1000000) (hp : cp_put p w W f = some g) (hr : cp_run S p n g = some V) : cp_run S p (n + 1) f = some ((a, w) :: V) := by
  rw [cp_run, cp_fP_eq, h]
  dsimp only
  rw [if_neg (by omega), if_neg (by omega), cp_fN_eq, hw, if_neg (by omega), hp]
  dsimp only
  rw [hr, Nat.add_sub_cancel_left]
theorem cp_pat_g {p f : List Nat} : ∀ (n l i : Nat), i < n → cp_g (false, false) (cp_pat p f n l) i = (decide (cp_rn p f (l + i) false ≠ 0), decide (cp_rn p f (l + i) true ≠ 0)) := by
  intro n
  induction n with
  | zero => intro l i h; omega
  | succ n ih =>
    intro l i h
    cases i with
    | zero => rfl
    | succ i =>
      have := ih (l + 1) i (by omega)
      rw [show l + 1 + i = l + (i + 1) by omega] at this
      exact this
theorem cp_pat_R {p f : List Nat} {n l : Nat} (h : l < n) (b : Bool) : cp_R (cp_pat p f n 0) l b = false ↔ cp_rn p f l b = 0 := by
  unfold cp_R
  rw [cp_pat_g n 0 l h, Nat.zero_add]
  cases b <;> simp
end
section
/-! walk: lengthOf, roomOf, stretch, findLongest -/
def cp_i (b : Bool) : Int32 := match b with
  | true => 1
  | false => 0
/-- the state's jobs are S, their prices p -/
def cp_net (S : List cp_Sh) (p : List Nat) (f0 : Int32) (a1 a2 a3 a4 a5 : Nat → Int32) : Prop :=
  S.length ≤ 7 ∧ p.length = S.length ∧ f0 = nI S.length ∧ ∀ j, j < S.length →
    (a1 j = nI (cp_fr S j) ∧ a2 j = nI (cp_to S j) ∧ a3 j = nI (cp_sl S j) ∧ a4 j = nI (cp_fa S j) ∧ a5 j = nI (cp_g 0 p j)) ∧
    (cp_fr S j ≤ 5 ∧ cp_to S j ≤ 5 ∧ cp_sl S j ≤ 9 ∧ cp_fa S j ≤ 9 ∧ cp_g 0 p j ≤ 20)
def cp_rm (a5 a6 : Nat → Int32) (l : Nat) (b : Bool) : Int32 := match b with
  | true => a6 l
  | false => if l % 2 = 0 then a5 (l / 2) - a6 l else 1000000
def cp_RM (S : List cp_Sh) (P : List (Bool × Bool)) (a5 a6 : Nat → Int32) : Prop := ∀ l, l < 2 * S.length → ∀ b, cp_rm a5 a6 l b = 0 ↔ cp_R P l b = false
/-- longest, reached, lastLine against the picture; c: how many stretches at most -/
def cp_D (c : Nat) (Lo La : List Nat) (a7 a8 a9 : Nat → Int32) : Prop :=
  Lo.length = 6 ∧ La.length = 6 ∧ ∀ v, v < 6 → (cp_g 0 Lo v = 0 → a8 v = 0) ∧ (cp_g 0 Lo v ≠ 0 →
    a8 v = 1 ∧ a7 v = nI (cp_g 0 Lo v) - nI 10000 ∧ 10000 ≤ cp_g 0 Lo v + 9 * c ∧ cp_g 0 Lo v ≤ 10000 + 9 * c ∧ (v ≠ 0 → a9 v = nI (cp_g 0 La v)))
theorem cp_Dw {c c' : Nat} {Lo La : List Nat} {a7 a8 a9 : Nat → Int32} (hc : c ≤ c') (h : cp_D c Lo La a7 a8 a9) : cp_D c' Lo La a7 a8 a9 := by
  obtain ⟨h1, h2, h3⟩ := h
  refine ⟨h1, h2, fun v hv => ⟨(h3 v hv).1, fun hz => ?_⟩⟩
  obtain ⟨k1, k2, k3, k4, k5⟩ := (h3 v hv).2 hz
  exact ⟨k1, k2, by omega, by omega, k5⟩
theorem cp_half {l : Nat} (h : l < 2 ^ 31) : nI l / 2 = nI (l / 2) := pk_div (d := 2) h (by decide) (by decide)
theorem cp_odd {l : Nat} (h : l < 2 ^ 31) : (nI l &&& 1 = 0) ↔ l % 2 = 0 := by
  have e : nI l &&& 1 = nI (l % 2) := pk_andN (m := 1) (by omega) 1 (by decide)
  have k := nI_eq (a := l % 2) (b := 0) (by omega) (by omega)
  rw [nI_0] at k
  rw [e]
  exact k
theorem cp_len9 {S : List cp_Sh} {p : List Nat} {f0 : Int32} {a1 a2 a3 a4 a5 : Nat → Int32} {l : Nat} (hN : cp_net S p f0 a1 a2 a3 a4 a5) (hl : l < 2 * S.length) : cp_len S l ≤ 9 := by
  obtain ⟨h7, hp, h0, hj⟩ := hN
  have hh := (hj (l / 2) (by omega)).2
  unfold cp_len
  split
  · exact hh.2.2.1
  · exact hh.2.2.2.1
theorem cp_hd6 {S : List cp_Sh} {p : List Nat} {f0 : Int32} {a1 a2 a3 a4 a5 : Nat → Int32} {l : Nat} {b : Bool} (hN : cp_net S p f0 a1 a2 a3 a4 a5) (hl : l < 2 * S.length) : cp_hd S l b < 6 := by
  obtain ⟨h7, hp, h0, hj⟩ := hN
  have hh := (hj (l / 2) (by omega)).2
  unfold cp_hd
  split <;> omega
theorem cp_tl6 {S : List cp_Sh} {p : List Nat} {f0 : Int32} {a1 a2 a3 a4 a5 : Nat → Int32} {l : Nat} {b : Bool} (hN : cp_net S p f0 a1 a2 a3 a4 a5) (hl : l < 2 * S.length) : cp_tl S l b < 6 := by
  obtain ⟨h7, hp, h0, hj⟩ := hN
  have hh := (hj (l / 2) (by omega)).2
  unfold cp_tl
  split <;> omega
theorem cp_ar1 (A n : Nat) : nI A - nI 10000 + nI n = nI (A + n) - nI 10000 := by
  rw [← nI_add]
  grind
theorem cp_ar2 {A n : Nat} (h : n ≤ A) : nI A - nI 10000 + (-nI n) = nI (A - n) - nI 10000 := by
  rw [← pk_sub h]
  grind
theorem cp_ar3 {A B : Nat} (hA : A < 2 ^ 30) (hB : B < 2 ^ 30) : nI A - nI 10000 < nI B - nI 10000 ↔ A < B := by
  rw [Int32.lt_iff_toInt_lt, pk_sub_toInt hA (by omega), pk_sub_toInt hB (by omega)]
  omega
section
variable {f0 f1 f2 : Int32} {a1 a2 a3 a4 a5 a6 a7 a8 a9 a10 a11 : Nat → Int32} {S : List cp_Sh} {p : List Nat} {P : List (Bool × Bool)} {c l : Nat} {b : Bool} {Lo La : List Nat}
theorem cp_length {post : Int32 → Prop} (hN : cp_net S p f0 a1 a2 a3 a4 a5) (hl : l < 2 * S.length) (H : post (nI (cp_len S l))) : wpX_lengthOf post (f0, f1, f2, a1, a2, a3, a4, a5, a6, a7, a8, a9, a10, a11) (nI l) := by
  obtain ⟨h7, hp, h0, hj⟩ := hN
  have hh := hj (l / 2) (by omega)
  unfold wpX_lengthOf
  dsimp only
  rw [cp_half (by omega), nI_clamp (by omega), hh.1.2.2.1, hh.1.2.2.2.1]
  unfold cp_len at H
  by_cases ho : l % 2 = 0
  · rw [if_pos ho] at H
    exact br_t ((cp_odd (by omega)).mpr ho) ⟨by decide, pk_in (l / 2) 7 (by omega), H⟩
  · rw [if_neg ho] at H
    exact br_f (fun z => ho ((cp_odd (by omega)).mp z)) ⟨by decide, pk_in (l / 2) 7 (by omega), H⟩
theorem cp_roomOf {post : Int32 → Prop} (hl : l < 14) (H : post (cp_rm a5 a6 l b)) : wpX_roomOf post (f0, f1, f2, a1, a2, a3, a4, a5, a6, a7, a8, a9, a10, a11) (nI l) (cp_i b) := by
  unfold wpX_roomOf
  dsimp only
  rw [cp_half (by omega), nI_clamp (by omega), nI_clamp (by omega)]
  cases b with
  | true => exact br_f (by decide) ⟨pk_in l 14 hl, H⟩
  | false =>
    refine br_t rfl ?_
    have H' : post (if l % 2 = 0 then a5 (l / 2) - a6 l else 1000000) := H
    by_cases ho : l % 2 = 0
    · rw [if_pos ho] at H'
      exact br_t ((cp_odd (by omega)).mpr ho) ⟨by decide, pk_in (l / 2) 7 (by omega), pk_in l 14 hl, H'⟩
    · rw [if_neg ho] at H'
      exact br_f (fun z => ho ((cp_odd (by omega)).mp z)) H'
theorem cp_s123 {post : Int32 → St2 → Prop} {h : Nat} {x5 : Int32} (hh : h < 6) (H : post 1 (f0, f1, f2, a1, a2, a3, a4, a5, a6, upd a7 h x5, upd a8 h 1, upd a9 h (nI (if b = true then l + 28 else l)), a10, a11)) : wX_stretch_123 post (nI l) (cp_i b) (nI h) x5 f0 f1 f2 a1 a2 a3 a4 a5 a6 a7 a8 a9 a10 a11 := by
  unfold wX_stretch_123
  rw [nI_clamp (by omega)]
  refine ⟨pk_in h 6 hh, nm_e ⟨pk_in h 6 hh, nm_e ?_⟩⟩
  cases b with
  | true =>
    refine br_f (by decide) ⟨pk_in h 6 hh, nm_r (e' := upd a9 h (nI (l + 28))) ?_ H⟩
    rw [← nI_add]
    rfl
  | false => exact br_t rfl ⟨pk_in h 6 hh, nm_e H⟩
/-- the picture after a store -/
theorem cp_Dset {h L z : Nat} (hD : cp_D c Lo La a7 a8 a9) (hh : h < 6) (hL1 : 10000 ≤ L + 9 * c) (hL2 : L ≤ 10000 + 9 * c) (hc : c ≤ 1000) :
    cp_D c (cp_s Lo h L) (cp_s La h z) (upd a7 h (nI L - nI 10000)) (upd a8 h 1) (upd a9 h (nI z)) := by
  obtain ⟨h1, h2, h3⟩ := hD
  refine ⟨by rw [cp_len_s, h1], by rw [cp_len_s, h2], fun v hv => ?_⟩
  rw [cp_g_s Lo h v L (by omega), cp_g_s La h v z (by omega)]
  by_cases e : v = h
  · rw [if_pos e, if_pos e, e, pk_us, pk_us, pk_us]
    exact ⟨fun q => absurd q (by omega), fun _ => ⟨rfl, rfl, hL1, hL2, fun _ => rfl⟩⟩
  · rw [if_neg e, if_neg e, pk_un e, pk_un e, pk_un e]
    exact h3 v hv
theorem cp_s73 {post : Int32 → St2 → Prop} {z : Int32} (hN : cp_net S p f0 a1 a2 a3 a4 a5) (hR : cp_RM S P a5 a6) (hD : cp_D c Lo La a7 a8 a9) (hc : c ≤ 900) (hl : l < 2 * S.length)
    (hz : z = if b = true then -nI (cp_len S l) else nI (cp_len S l))
    (H : ∀ b7 b8 b9, cp_D (c + 1) (cp_st S P l b Lo La).2.1 (cp_st S P l b Lo La).2.2 b7 b8 b9 → post (cp_i (cp_st S P l b Lo La).1) (f0, f1, f2, a1, a2, a3, a4, a5, a6, b7, b8, b9, a10, a11)) :
    wX_stretch_73 post (nI l) (cp_i b) (nI (cp_tl S l b)) (nI (cp_hd S l b)) z (a7 (cp_tl S l b)) f0 f1 f2 a1 a2 a3 a4 a5 a6 a7 a8 a9 a10 a11 := by
  have ht := cp_tl6 (b := b) hN hl
  have hh := cp_hd6 (b := b) hN hl
  have h9 := cp_len9 hN hl
  have h14 : l < 14 := by have := hN.1; omega
  have hRl := hR l hl b
  have Hf : cp_st S P l b Lo La = (false, Lo, La) → post 0 (f0, f1, f2, a1, a2, a3, a4, a5, a6, a7, a8, a9, a10, a11) := by
    intro e
    rw [e] at H
    exact H a7 a8 a9 (cp_Dw (by omega) hD)
  unfold cp_st cp_st2 cp_st3 at Hf H
  generalize cp_tl S l b = t at *
  generalize cp_hd S l b = h at *
  generalize cp_len S l = n at *
  have D3 := hD.2.2
  unfold wX_stretch_73
  rw [nI_clamp (show t < 2 ^ 31 by omega), nI_clamp (show h < 2 ^ 31 by omega)]
  by_cases hA : cp_g 0 Lo t = 0
  · refine nm_e ⟨pk_in t 6 ht, br_t ((D3 t ht).1 hA) (Hf ?_)⟩
    simp only [hA, if_true, ite_self]
  · obtain ⟨k1, k2, k3, k4, _⟩ := (D3 t ht).2 hA
    have hx : a7 t + z = nI (if b = true then cp_g 0 Lo t - n else cp_g 0 Lo t + n) - nI 10000 := by
      rw [hz, k2]
      cases b with
      | true => exact cp_ar2 (by omega)
      | false => exact cp_ar1 _ _
    have hL1 : 10000 ≤ (if b = true then cp_g 0 Lo t - n else cp_g 0 Lo t + n) + 9 * (c + 1) := by split <;> omega
    have hL2 : (if b = true then cp_g 0 Lo t - n else cp_g 0 Lo t + n) ≤ 10000 + 9 * (c + 1) := by split <;> omega
    rw [hx]
    generalize (if b = true then cp_g 0 Lo t - n else cp_g 0 Lo t + n) = L at *
    refine nm_e ⟨pk_in t 6 ht, br_f (by rw [k1]; decide) (cp_roomOf h14 ?_)⟩
    by_cases hq : cp_R P l b = true
    · refine br_f (fun q => by rw [hRl.mp q] at hq; exact absurd hq (by decide)) ?_
      by_cases h0 : h = 0
      · refine br_t (by rw [h0]; rfl) (Hf ?_)
        rw [if_pos hq, if_pos h0]
      · refine br_f (nI_ne0 (by omega) (by omega)) ⟨pk_in h 6 hh, ?_⟩
        have Ht : ¬ L ≤ cp_g 0 Lo h → wX_stretch_123 post (nI l) (cp_i b) (nI h) (nI L - nI 10000) f0 f1 f2 a1 a2 a3 a4 a5 a6 a7 a8 a9 a10 a11 := by
          intro hle
          rw [if_pos hq, if_neg h0, if_neg hA, if_neg hle, cp_fL_eq, cp_fL_eq] at H
          exact cp_s123 hh (H _ _ _ (cp_Dset (cp_Dw (by omega) hD) hh hL1 hL2 (by omega)))
        by_cases hB : cp_g 0 Lo h = 0
        · exact br_t ((D3 h hh).1 hB) (Ht (by omega))
        · obtain ⟨m1, m2, m3, m4, _⟩ := (D3 h hh).2 hB
          refine br_f (by rw [m1]; decide) ⟨pk_in h 6 hh, ?_⟩
          rw [m2]
          by_cases hle : L ≤ cp_g 0 Lo h
          · refine br_f (fun q => absurd ((cp_ar3 (by omega) (by omega)).mp q) (by omega)) (Hf ?_)
            rw [if_pos hq, if_neg h0, if_neg hA, if_pos hle]
          · exact br_t ((cp_ar3 (by omega) (by omega)).mpr (by omega)) (Ht hle)
    · refine br_t (hRl.mpr (by cases hv : cp_R P l b <;> simp_all)) (Hf ?_)
      rw [if_neg hq]
theorem cp_stretch {post : Int32 → St2 → Prop} (hN : cp_net S p f0 a1 a2 a3 a4 a5) (hR : cp_RM S P a5 a6) (hD : cp_D c Lo La a7 a8 a9) (hc : c ≤ 900) (hl : l < 2 * S.length)
    (H : ∀ b7 b8 b9, cp_D (c + 1) (cp_st S P l b Lo La).2.1 (cp_st S P l b Lo La).2.2 b7 b8 b9 → post (cp_i (cp_st S P l b Lo La).1) (f0, f1, f2, a1, a2, a3, a4, a5, a6, b7, b8, b9, a10, a11)) :
    wpX_stretch post (f0, f1, f2, a1, a2, a3, a4, a5, a6, a7, a8, a9, a10, a11) (nI l) (cp_i b) := by
  have h7 := hN.1
  have hh := hN.2.2.2 (l / 2) (by omega)
  cases b with
  | false =>
    have ht : cp_fr S (l / 2) < 6 := by omega
    have M := cp_s73 (b := false) (f1 := f1) (f2 := f2) (a10 := a10) (a11 := a11) (post := post) hN hR hD hc hl rfl H
    have et : cp_tl S l false = cp_fr S (l / 2) := rfl
    have eh : cp_hd S l false = cp_to S (l / 2) := rfl
    rw [et, eh] at M
    unfold wpX_stretch
    dsimp only
    rw [cp_half (by omega), nI_clamp (by omega), hh.1.1]
    refine br_t rfl ⟨by decide, pk_in (l / 2) 7 (by omega), ?_⟩
    unfold wX_stretch_23
    rw [cp_half (by omega), nI_clamp (by omega), hh.1.2.1]
    refine br_t rfl ⟨by decide, pk_in (l / 2) 7 (by omega), ?_⟩
    unfold wX_stretch_47
    rw [nI_clamp (by omega)]
    exact ⟨pk_in _ 6 ht, br_t rfl (cp_length hN hl M)⟩
  | true =>
    have ht : cp_to S (l / 2) < 6 := by omega
    have M := cp_s73 (b := true) (f1 := f1) (f2 := f2) (a10 := a10) (a11 := a11) (post := post) hN hR hD hc hl rfl H
    have et : cp_tl S l true = cp_to S (l / 2) := rfl
    have eh : cp_hd S l true = cp_fr S (l / 2) := rfl
    rw [et, eh] at M
    unfold wpX_stretch
    dsimp only
    rw [cp_half (by omega), nI_clamp (by omega), hh.1.2.1]
    refine br_f (by decide) ⟨by decide, pk_in (l / 2) 7 (by omega), ?_⟩
    unfold wX_stretch_23
    rw [cp_half (by omega), nI_clamp (by omega), hh.1.1]
    refine br_f (by decide) ⟨by decide, pk_in (l / 2) 7 (by omega), ?_⟩
    unfold wX_stretch_47
    rw [nI_clamp (by omega)]
    exact ⟨pk_in _ 6 ht, br_f (by decide) (cp_length hN hl M)⟩
end
end
section
/-! walk: findLongest -/
abbrev cp_J : Type := Int32 → Int32 → Int32 → Int32 → Int32 → (Nat → Int32) → (Nat → Int32) → (Nat → Int32) → (Nat → Int32) → (Nat → Int32) → (Nat → Int32) → (Nat → Int32) → (Nat → Int32) → (Nat → Int32) → (Nat → Int32) → (Nat → Int32) → Prop
section
variable {f0 f1 f2 : Int32} {a1 a2 a3 a4 a5 a6 a7 a8 a9 a10 a11 : Nat → Int32} {S : List cp_Sh} {p : List Nat} {P : List (Bool × Bool)}
theorem cp_89 {post : St2 → Prop} {J47 J61 : cp_J} {x2 : Int32} {z : Bool} {c l : Nat} {Lo La : List Nat} (hN : cp_net S p f0 a1 a2 a3 a4 a5) (hR : cp_RM S P a5 a6) (hD : cp_D c Lo La a7 a8 a9) (hc : c ≤ 900) (hl : l < 2 * S.length)
    (H : ∀ b7 b8 b9, cp_D (c + 1) (cp_st S P l true Lo La).2.1 (cp_st S P l true Lo La).2.2 b7 b8 b9 → J61 (cp_i ((cp_st S P l true Lo La).1 || z)) (nI (l + 1)) f0 f1 f2 a1 a2 a3 a4 a5 a6 b7 b8 b9 a10 a11) :
    wX_findLongest_89 post J47 J61 x2 (nI l) (cp_i z) f0 f1 f2 a1 a2 a3 a4 a5 a6 a7 a8 a9 a10 a11 := by
  unfold wX_findLongest_89
  refine cp_stretch (b := true) hN hR hD hc hl (fun b7 b8 b9 h => ?_)
  have h' := H b7 b8 b9 h
  dsimp only
  generalize (cp_st S P l true Lo La).1 = r at h' ⊢
  cases r with
  | false => cases z with
    | false => exact br_t rfl (br_t rfl (nm_r (nI_1 l) h'))
    | true => exact br_t rfl (br_f (by decide) (nm_r (nI_1 l) h'))
  | true => exact br_f (by decide) (nm_r (nI_1 l) h')
theorem cp_round_s (S : List cp_Sh) (P : List (Bool × Bool)) (n l : Nat) (ch : Bool) (Lo La : List Nat) : cp_round S P (n + 1) l ch Lo La =
    cp_round S P n (l + 1) ((cp_st S P l true (cp_st S P l false Lo La).2.1 (cp_st S P l false Lo La).2.2).1 || ((cp_st S P l false Lo La).1 || ch))
      (cp_st S P l true (cp_st S P l false Lo La).2.1 (cp_st S P l false Lo La).2.2).2.1 (cp_st S P l true (cp_st S P l false Lo La).2.1 (cp_st S P l false Lo La).2.2).2.2 := rfl
theorem cp_rounds_s (S : List cp_Sh) (P : List (Bool × Bool)) (n : Nat) (Lo La : List Nat) : cp_rounds S P (n + 1) Lo La =
    if (cp_round S P (2 * S.length) 0 false Lo La).1 = true then cp_rounds S P n (cp_round S P (2 * S.length) 0 false Lo La).2.1 (cp_round S P (2 * S.length) 0 false Lo La).2.2
    else ((cp_round S P (2 * S.length) 0 false Lo La).2.1, (cp_round S P (2 * S.length) 0 false Lo La).2.2) := rfl
theorem cp_61 {post : St2 → Prop} {J47 : cp_J} {x2 : Int32} (hN : cp_net S p f0 a1 a2 a3 a4 a5) (hR : cp_RM S P a5 a6) : ∀ (n l c : Nat) (ch : Bool) (Lo La : List Nat) (a7 a8 a9 : Nat → Int32), l + n = 2 * S.length → c + 2 * n ≤ 900 → cp_D c Lo La a7 a8 a9 →
    (∀ b7 b8 b9, cp_D (c + 2 * n) (cp_round S P n l ch Lo La).2.1 (cp_round S P n l ch Lo La).2.2 b7 b8 b9 → J47 (cp_i (cp_round S P n l ch Lo La).1) (x2 + 1) f0 f1 f2 a1 a2 a3 a4 a5 a6 b7 b8 b9 a10 a11) →
    wX_findLongest_61 post J47 x2 (n + 1) (cp_i ch) (nI l) f0 f1 f2 a1 a2 a3 a4 a5 a6 a7 a8 a9 a10 a11 := by
  have h7 := hN.1
  have e2 : 2 * f0 = nI (2 * S.length) := by rw [hN.2.2.1]; exact pk_mul 2 _
  intro n
  induction n with
  | zero =>
    intro l c ch Lo La a7 a8 a9 hn hc hD H
    exact pk_le (2 * S.length) l (fun _ => nm_e (H a7 a8 a9 hD)) (fun z => absurd z (by omega)) e2 rfl (by omega) (by omega)
  | succ n ih =>
    intro l c ch Lo La a7 a8 a9 hn hc hD H
    refine pk_le (2 * S.length) l (fun z => absurd z (by omega)) (fun _ => ?_) e2 rfl (by omega) (by omega)
    rw [cp_round_s] at H
    refine cp_stretch (b := false) hN hR hD (by omega) (by omega) (fun b7 b8 b9 h => ?_)
    generalize cp_st S P l false Lo La = s1 at h H ⊢
    obtain ⟨c1, Lo1, La1⟩ := s1
    dsimp only at h H ⊢
    have M : ∀ z : Bool, z = (c1 || ch) → wX_findLongest_89 post J47 (wX_findLongest_61 post J47 x2 (n + 1)) x2 (nI l) (cp_i z) f0 f1 f2 a1 a2 a3 a4 a5 a6 b7 b8 b9 a10 a11 := by
      intro z hz
      refine cp_89 hN hR h (by omega) (by omega) (fun d7 d8 d9 h' => ?_)
      refine ih (l + 1) (c + 1 + 1) _ _ _ d7 d8 d9 (by omega) (by omega) h' (fun e7 e8 e9 he => ?_)
      rw [hz] at he ⊢
      refine H e7 e8 e9 ?_
      rw [show c + 2 * (n + 1) = c + 1 + 1 + 2 * n by omega]
      exact he
    cases c1 with
    | false => cases ch with
      | false => exact br_t rfl (br_t rfl (M false rfl))
      | true => exact br_t rfl (br_f (by decide) (M true rfl))
    | true => exact br_f (by decide) (M true rfl)
theorem cp_47 {post : St2 → Prop} (hN : cp_net S p f0 a1 a2 a3 a4 a5) (hR : cp_RM S P a5 a6) : ∀ (n m c : Nat) (Lo La : List Nat) (a7 a8 a9 : Nat → Int32), m + n = 6 → c ≤ 28 * m → cp_D c Lo La a7 a8 a9 →
    (∀ b7 b8 b9, cp_D 168 (cp_rounds S P n Lo La).1 (cp_rounds S P n Lo La).2 b7 b8 b9 → post (f0, f1, f2, a1, a2, a3, a4, a5, a6, b7, b8, b9, a10, a11)) →
    wX_findLongest_47 post (n + 1) 1 (nI m) f0 f1 f2 a1 a2 a3 a4 a5 a6 a7 a8 a9 a10 a11 := by
  have h7 := hN.1
  intro n
  induction n with
  | zero =>
    intro m c Lo La a7 a8 a9 hm hc hD H
    exact pk_le 6 m (fun _ => H a7 a8 a9 (cp_Dw (by omega) hD)) (fun z => absurd z (by omega))
  | succ n ih =>
    intro m c Lo La a7 a8 a9 hm hc hD H
    refine pk_le 6 m (fun z => absurd z (by omega)) (fun _ => br_f (by decide) ⟨2 * S.length + 1, cp_61 hN hR (2 * S.length) 0 c false Lo La a7 a8 a9 (by omega) (by omega) hD (fun b7 b8 b9 h => ?_)⟩)
    rw [cp_rounds_s] at H
    rw [nI_1]
    generalize cp_round S P (2 * S.length) 0 false Lo La = s1 at h H ⊢
    obtain ⟨ch, Lo1, La1⟩ := s1
    dsimp only at h H ⊢
    cases ch with
    | true =>
      rw [if_pos rfl] at H
      exact ih (m + 1) _ Lo1 La1 b7 b8 b9 (by omega) (by omega) h H
    | false =>
      rw [if_neg (by decide)] at H
      have Hx := H b7 b8 b9 (cp_Dw (by omega) h)
      exact pk_le 6 (m + 1) (fun _ => Hx) (fun _ => br_t rfl Hx)
theorem cp_22 {post : St2 → Prop} {J2 : Int32 → (Nat → Int32) → (Nat → Int32) → (Nat → Int32) → (Nat → Int32) → (Nat → Int32) → (Nat → Int32) → (Nat → Int32) → (Nat → Int32) → (Nat → Int32) → (Nat → Int32) → (Nat → Int32) → Prop} {i : Nat} {z : Int32} (hi : i < 6) (hz : vp_nar .boolean z = z)
    (H : J2 (nI (i + 1)) a1 a2 a3 a4 a5 a6 (upd a7 i 0) (upd a8 i z) (upd a9 i (-1)) a10 a11) :
    wX_findLongest_22 post J2 (nI i) z (nI i) f0 f1 f2 a1 a2 a3 a4 a5 a6 a7 a8 a9 a10 a11 := by
  unfold wX_findLongest_22
  rw [nI_clamp (by omega), hz]
  exact ⟨pk_in i 6 hi, nm_e ⟨pk_in i 6 hi, nm_e ⟨pk_in i 6 hi, nm_e (nm_r (nI_1 i) H)⟩⟩⟩
def cp_Ini (i : Nat) (a7 a8 : Nat → Int32) : Prop := ∀ v, v < i → a8 v = (if v = 0 then 1 else 0) ∧ a7 v = 0
theorem cp_Ini_s {i : Nat} {a7 a8 : Nat → Int32} {z : Int32} (h : cp_Ini i a7 a8) (hz : z = if i = 0 then 1 else 0) : cp_Ini (i + 1) (upd a7 i 0) (upd a8 i z) := by
  intro v hv
  by_cases e : v = i
  · rw [e, pk_us, pk_us]
    exact ⟨hz, rfl⟩
  · rw [pk_un e, pk_un e]
    exact h v (by omega)
theorem cp_Ini_D {a7 a8 a9 : Nat → Int32} (h : cp_Ini 6 a7 a8) : cp_D 0 [10000, 0, 0, 0, 0, 0] [0, 0, 0, 0, 0, 0] a7 a8 a9 := by
  refine ⟨rfl, rfl, fun v hv => ?_⟩
  by_cases e : v = 0
  · subst e
    refine ⟨fun z => absurd z (by decide), fun _ => ⟨(h 0 (by omega)).1, ?_, by decide, by decide, fun z => absurd rfl z⟩⟩
    rw [(h 0 (by omega)).2]
    rfl
  · have hg : cp_g 0 [10000, 0, 0, 0, 0, 0] v = 0 := by
      have q : v = 1 ∨ v = 2 ∨ v = 3 ∨ v = 4 ∨ v = 5 := by omega
      rcases q with q | q | q | q | q <;> subst q <;> rfl
    have h8 := (h v hv).1
    rw [if_neg e] at h8
    exact ⟨fun _ => h8, fun z => absurd hg z⟩
theorem cp_findLongest {post : St2 → Prop} (hN : cp_net S p f0 a1 a2 a3 a4 a5) (hR : cp_RM S P a5 a6)
    (H : ∀ b7 b8 b9, cp_D 168 (cp_fl S P).1 (cp_fl S P).2 b7 b8 b9 → post (f0, f1, f2, a1, a2, a3, a4, a5, a6, b7, b8, b9, a10, a11)) :
    wpX_findLongest post (f0, f1, f2, a1, a2, a3, a4, a5, a6, a7, a8, a9, a10, a11) :=
  pk_loop (σ := (Nat → Int32) × (Nat → Int32) × (Nat → Int32)) (fun n i s => wX_findLongest_2 post f0 f1 f2 n (nI i) a1 a2 a3 a4 a5 a6 s.1 s.2.1 s.2.2 a10 a11) (fun i s => cp_Ini i s.1 s.2.1) 6 0 (a7, a8, a9) (by omega) (fun v hv => absurd hv (by omega))
    (fun n s h => pk_le 6 6 (fun _ => ⟨7, cp_47 hN hR 6 0 0 _ _ _ _ _ (by omega) (by omega) (cp_Ini_D h) H⟩) (fun z => absurd z (by omega)))
    (fun n i s hi h hw => pk_le 6 i (fun z => absurd z (by omega)) (fun _ => pk_eq i 0
      (fun z => cp_22 hi (by rfl) (hw (upd s.1 i 0, upd s.2.1 i 1, upd s.2.2 i (-1)) (cp_Ini_s h (by rw [if_pos z]))))
      (fun z => cp_22 hi (by rfl) (hw (upd s.1 i 0, upd s.2.1 i 0, upd s.2.2 i (-1)) (cp_Ini_s h (by rw [if_neg z]))))))
end
end
section
/-! walk: widthOfWay, send, sendAll -/
def cp_wi (a5 a6 : Nat → Int32) : List (Nat × Bool) → Int32 → Int32
  | [], w => w
  | (l, b) :: W, w => cp_wi a5 a6 W (if w ≤ cp_rm a5 a6 l b then w else cp_rm a5 a6 l b)
def cp_sd (x : Int32) : List (Nat × Bool) → (Nat → Int32) → (Nat → Int32)
  | [], a => a
  | (l, b) :: W, a => cp_sd x W (upd a l (a l + (if b = true then -x else x)))
/-- one step of a way read back -/
theorem cp_way_s {S : List cp_Sh} {Lo La : List Nat} {n v : Nat} {W : List (Nat × Bool)} (h : cp_way S Lo La (n + 1) v = some W) (hv : v ≠ 0) :
    cp_g 0 Lo v ≠ 0 ∧ ∃ l b V, l < 2 * S.length ∧ cp_g 0 La v = (if b = true then l + 28 else l) ∧ (b = false → l < 28) ∧ W = (l, b) :: V ∧ cp_way S Lo La n (cp_tl S l b) = some V := by
  rw [cp_way, if_neg hv] at h
  by_cases h0 : cp_g 0 Lo v = 0
  · rw [if_pos h0] at h
    exact absurd h (by simp)
  · rw [if_neg h0] at h
    refine ⟨h0, ?_⟩
    by_cases h28 : cp_g 0 La v < 28
    · rw [if_pos h28] at h
      by_cases hl : cp_g 0 La v < 2 * S.length
      · rw [if_pos hl] at h
        cases e : cp_way S Lo La n (cp_fr S (cp_g 0 La v / 2)) with
        | none => rw [e] at h; exact absurd h (by simp)
        | some V =>
          rw [e] at h
          have h' : some ((cp_g 0 La v, false) :: V) = some W := h
          exact ⟨cp_g 0 La v, false, V, hl, rfl, fun _ => h28, (Option.some.inj h').symm, e⟩
      · rw [if_neg hl] at h
        exact absurd h (by simp)
    · rw [if_neg h28] at h
      by_cases hl : cp_g 0 La v - 28 < 2 * S.length
      · rw [if_pos hl] at h
        cases e : cp_way S Lo La n (cp_to S ((cp_g 0 La v - 28) / 2)) with
        | none => rw [e] at h; exact absurd h (by simp)
        | some V =>
          rw [e] at h
          have h' : some ((cp_g 0 La v - 28, true) :: V) = some W := h
          refine ⟨cp_g 0 La v - 28, true, V, hl, ?_, fun z => absurd z (by decide), (Option.some.inj h').symm, e⟩
          rw [if_pos rfl]
          omega
      · rw [if_neg hl] at h
        exact absurd h (by simp)
theorem cp_way_0 {S : List cp_Sh} {Lo La : List Nat} {n : Nat} {W : List (Nat × Bool)} (h : cp_way S Lo La n 0 = some W) : W = [] := by
  cases n <;> simp [cp_way] at h <;> exact h
theorem cp_way_z {S : List cp_Sh} {Lo La : List Nat} {v : Nat} {W : List (Nat × Bool)} (h : cp_way S Lo La 0 v = some W) : v = 0 := by
  by_cases e : v = 0
  · exact e
  · simp [cp_way, e] at h
theorem cp_way_ok {S : List cp_Sh} {Lo La : List Nat} : ∀ (n v : Nat) (W : List (Nat × Bool)), cp_way S Lo La n v = some W → ∀ q, q ∈ W → q.1 < 2 * S.length := by
  intro n
  induction n with
  | zero =>
    intro v W h q hq
    have hv := cp_way_z h
    subst hv
    rw [cp_way_0 h] at hq
    exact absurd hq (by simp)
  | succ n ih =>
    intro v W h q hq
    by_cases hv : v = 0
    · subst hv
      rw [cp_way_0 h] at hq
      exact absurd hq (by simp)
    · obtain ⟨_, l, b, V, hl, _, _, rfl, hV⟩ := cp_way_s h hv
      rcases List.mem_cons.mp hq with e | e
      · rw [e]; exact hl
      · exact ih _ V hV q e
section
variable {f0 f1 f2 : Int32} {a1 a2 a3 a4 a5 a6 a7 a8 a9 a10 a11 : Nat → Int32} {S : List cp_Sh} {p : List Nat} {c l : Nat} {b : Bool} {Lo La : List Nat}
theorem cp_58 {post : Int32 → Prop} {J7 : Int32 → Int32 → Int32 → Prop} {w : Int32} {m : Nat} (hN : cp_net S p f0 a1 a2 a3 a4 a5) (hl : l < 2 * S.length)
    (H : J7 (if w ≤ cp_rm a5 a6 l b then w else cp_rm a5 a6 l b) (nI (cp_tl S l b)) (nI (m + 1))) :
    wX_widthOfWay_58 post J7 w (nI m) (cp_i b) (nI l) f0 f1 f2 a1 a2 a3 a4 a5 a6 a7 a8 a9 a10 a11 := by
  have h7 := hN.1
  have hh := hN.2.2.2 (l / 2) (by omega)
  have K : ∀ x, J7 x (nI (cp_tl S l b)) (nI (m + 1)) → wX_widthOfWay_82 post J7 (nI m) (cp_i b) (nI l) x f0 f1 f2 a1 a2 a3 a4 a5 a6 a7 a8 a9 a10 a11 := by
    intro x hx
    unfold wX_widthOfWay_82
    rw [cp_half (by omega), nI_clamp (by omega), hh.1.1, hh.1.2.1]
    cases b with
    | false => exact br_t rfl ⟨by decide, pk_in (l / 2) 7 (by omega), nm_e (nm_r (nI_1 m) hx)⟩
    | true => exact br_f (by decide) ⟨by decide, pk_in (l / 2) 7 (by omega), nm_e (nm_r (nI_1 m) hx)⟩
  unfold wX_widthOfWay_58
  refine cp_roomOf (by omega) ?_
  by_cases hw : w ≤ cp_rm a5 a6 l b
  · rw [if_pos hw] at H
    exact br_t hw (K _ H)
  · rw [if_neg hw] at H
    exact br_f hw (K _ H)
theorem cp_w7 {post : Int32 → Prop} (hN : cp_net S p f0 a1 a2 a3 a4 a5) (hD : cp_D c Lo La a7 a8 a9) : ∀ (n m v : Nat) (W : List (Nat × Bool)) (w : Int32), m + n = 6 → v < 6 → cp_way S Lo La n v = some W → post (cp_wi a5 a6 W w) →
    wX_widthOfWay_7 post f0 f1 f2 a1 a2 a3 a4 a5 a6 a7 a8 a9 a10 a11 (n + 1) w (nI v) (nI m) := by
  have h7 := hN.1
  intro n
  induction n with
  | zero =>
    intro m v W w hm hv hW H
    have hv0 := cp_way_z hW
    subst hv0
    rw [cp_way_0 hW] at H
    exact pk_le 6 m (fun _ => H) (fun z => absurd z (by omega))
  | succ n ih =>
    intro m v W w hm hv hW H
    refine pk_le 6 m (fun z => absurd z (by omega)) (fun _ => ?_)
    by_cases h0 : v = 0
    · subst h0
      rw [cp_way_0 hW] at H
      exact pk_eq 0 0 (fun _ => H) (fun z => absurd rfl z)
    · obtain ⟨hz, l, b, V, hl, hLa, h28, rfl, hV⟩ := cp_way_s hW h0
      refine pk_eq v 0 (fun z => absurd z h0) (fun _ => ⟨pk_in v 6 hv, ?_⟩)
      have e9 : a9 v = nI (if b = true then l + 28 else l) := by
        rw [← hLa]
        exact ((hD.2.2 v hv).2 hz).2.2.2.2 h0
      have M := cp_58 (f1 := f1) (f2 := f2) (a6 := a6) (a7 := a7) (a8 := a8) (a9 := a9) (a10 := a10) (a11 := a11) (b := b) (post := post) (J7 := wX_widthOfWay_7 post f0 f1 f2 a1 a2 a3 a4 a5 a6 a7 a8 a9 a10 a11 (n + 1)) (w := w) (m := m) hN hl
        (ih (m + 1) _ V _ (by omega) (cp_tl6 hN hl) hV H)
      rw [nI_clamp (by omega), e9]
      cases b with
      | false =>
        have h28' := h28 rfl
        refine pk_lt l 28 (fun _ => ?_) (fun z => absurd z (by omega))
        unfold wX_widthOfWay_33
        rw [nI_clamp (by omega), e9]
        exact br_t rfl ⟨pk_in v 6 hv, M⟩
      | true =>
        refine pk_lt (l + 28) 28 (fun z => absurd z (by omega)) (fun _ => ?_)
        unfold wX_widthOfWay_33
        rw [nI_clamp (by omega), e9]
        refine br_f (by decide) ⟨pk_in v 6 hv, ?_⟩
        have es : nI (if true = true then l + 28 else l) - 28 = nI l := by
          rw [if_pos rfl]
          exact (pk_sub (a := l + 28) (b := 28) (by omega)).trans (by rw [Nat.add_sub_cancel])
        rw [es]
        exact M
theorem cp_widthOfWay {post : Int32 → Prop} {W : List (Nat × Bool)} (hN : cp_net S p f0 a1 a2 a3 a4 a5) (hD : cp_D c Lo La a7 a8 a9) (hW : cp_way S Lo La 6 5 = some W) (H : post (cp_wi a5 a6 W 1000000)) :
    wpX_widthOfWay post (f0, f1, f2, a1, a2, a3, a4, a5, a6, a7, a8, a9, a10, a11) :=
  ⟨7, cp_w7 hN hD 6 0 5 W 1000000 (by omega) (by omega) hW H⟩
theorem cp_55 {post : St2 → Prop} {J4 : Int32 → Int32 → (Nat → Int32) → (Nat → Int32) → (Nat → Int32) → (Nat → Int32) → (Nat → Int32) → (Nat → Int32) → (Nat → Int32) → (Nat → Int32) → (Nat → Int32) → (Nat → Int32) → (Nat → Int32) → Prop} {x : Int32} {m : Nat} (hN : cp_net S p f0 a1 a2 a3 a4 a5) (hl : l < 2 * S.length)
    (H : J4 (nI (cp_tl S l b)) (nI (m + 1)) a1 a2 a3 a4 a5 (upd a6 l (a6 l + (if b = true then -x else x))) a7 a8 a9 a10 a11) :
    wX_send_55 post J4 x (nI m) (cp_i b) (nI l) f0 f1 f2 a1 a2 a3 a4 a5 a6 a7 a8 a9 a10 a11 := by
  have h7 := hN.1
  have hh := hN.2.2.2 (l / 2) (by omega)
  unfold wX_send_55
  rw [nI_clamp (by omega)]
  refine ⟨pk_in l 14 (by omega), ?_⟩
  cases b with
  | false =>
    refine br_t rfl ?_
    unfold wX_send_76
    rw [cp_half (by omega), nI_clamp (by omega), nI_clamp (by omega), hh.1.1]
    exact ⟨pk_in l 14 (by omega), nm_e (br_t rfl ⟨by decide, pk_in (l / 2) 7 (by omega), nm_e (nm_r (nI_1 m) H)⟩)⟩
  | true =>
    refine br_f (by decide) ?_
    unfold wX_send_76
    rw [cp_half (by omega), nI_clamp (by omega), nI_clamp (by omega), hh.1.2.1]
    exact ⟨pk_in l 14 (by omega), nm_e (br_f (by decide) ⟨by decide, pk_in (l / 2) 7 (by omega), nm_e (nm_r (nI_1 m) H)⟩)⟩
theorem cp_s4 {post : St2 → Prop} {x : Int32} (hN : cp_net S p f0 a1 a2 a3 a4 a5) (hD : cp_D c Lo La a7 a8 a9) : ∀ (n m v : Nat) (W : List (Nat × Bool)) (a6 : Nat → Int32), m + n = 6 → v < 6 → cp_way S Lo La n v = some W → post (f0, f1, f2, a1, a2, a3, a4, a5, cp_sd x W a6, a7, a8, a9, a10, a11) →
    wX_send_4 post x f0 f1 f2 (n + 1) (nI v) (nI m) a1 a2 a3 a4 a5 a6 a7 a8 a9 a10 a11 := by
  have h7 := hN.1
  intro n
  induction n with
  | zero =>
    intro m v W a6 hm hv hW H
    have hv0 := cp_way_z hW
    subst hv0
    rw [cp_way_0 hW] at H
    exact pk_le 6 m (fun _ => H) (fun z => absurd z (by omega))
  | succ n ih =>
    intro m v W a6 hm hv hW H
    refine pk_le 6 m (fun z => absurd z (by omega)) (fun _ => ?_)
    by_cases h0 : v = 0
    · subst h0
      rw [cp_way_0 hW] at H
      exact pk_eq 0 0 (fun _ => H) (fun z => absurd rfl z)
    · obtain ⟨hz, l, b, V, hl, hLa, h28, rfl, hV⟩ := cp_way_s hW h0
      refine pk_eq v 0 (fun z => absurd z h0) (fun _ => ⟨pk_in v 6 hv, ?_⟩)
      have e9 : a9 v = nI (if b = true then l + 28 else l) := by
        rw [← hLa]
        exact ((hD.2.2 v hv).2 hz).2.2.2.2 h0
      have M := cp_55 (f1 := f1) (f2 := f2) (a6 := a6) (a7 := a7) (a8 := a8) (a9 := a9) (a10 := a10) (a11 := a11) (b := b) (post := post) (J4 := wX_send_4 post x f0 f1 f2 (n + 1)) (x := x) (m := m) hN hl
        (ih (m + 1) _ V _ (by omega) (cp_tl6 hN hl) hV H)
      rw [nI_clamp (by omega), e9]
      cases b with
      | false =>
        have h28' := h28 rfl
        refine pk_lt l 28 (fun _ => ?_) (fun z => absurd z (by omega))
        unfold wX_send_30
        rw [nI_clamp (by omega), e9]
        exact br_t rfl ⟨pk_in v 6 hv, M⟩
      | true =>
        refine pk_lt (l + 28) 28 (fun z => absurd z (by omega)) (fun _ => ?_)
        unfold wX_send_30
        rw [nI_clamp (by omega), e9]
        refine br_f (by decide) ⟨pk_in v 6 hv, ?_⟩
        have es : nI (if true = true then l + 28 else l) - 28 = nI l := by
          rw [if_pos rfl]
          exact (pk_sub (a := l + 28) (b := 28) (by omega)).trans (by rw [Nat.add_sub_cancel])
        rw [es]
        exact M
theorem cp_send {post : St2 → Prop} {x : Int32} {W : List (Nat × Bool)} (hN : cp_net S p f0 a1 a2 a3 a4 a5) (hD : cp_D c Lo La a7 a8 a9) (hW : cp_way S Lo La 6 5 = some W) (H : post (f0, f1, f2, a1, a2, a3, a4, a5, cp_sd x W a6, a7, a8, a9, a10, a11)) :
    wpX_send post (f0, f1, f2, a1, a2, a3, a4, a5, a6, a7, a8, a9, a10, a11) x :=
  ⟨7, cp_s4 hN hD 6 0 5 W a6 (by omega) (by omega) hW H⟩
end
/-! flows as naturals -/
def cp_F (S : List cp_Sh) (p f : List Nat) (a6 : Nat → Int32) : Prop :=
  f.length = 14 ∧ ∀ l, l < 14 → a6 l = nI (cp_g 0 f l) ∧ cp_g 0 f l ≤ 1000000000 ∧ (l % 2 = 0 → l < 2 * S.length → cp_g 0 f l ≤ cp_g 0 p (l / 2))
section
variable {f0 f1 f2 : Int32} {a1 a2 a3 a4 a5 a6 a7 a8 a9 a10 a11 : Nat → Int32} {S : List cp_Sh} {p f : List Nat} {l : Nat}
theorem cp_rmn (b : Bool) (hN : cp_net S p f0 a1 a2 a3 a4 a5) (hF : cp_F S p f a6) (hl : l < 2 * S.length) : cp_rm a5 a6 l b = nI (cp_rn p f l b) ∧ cp_rn p f l b ≤ 1000000000 := by
  have h7 := hN.1
  have hh := hN.2.2.2 (l / 2) (by omega)
  obtain ⟨k1, k2, k3⟩ := hF.2 l (by omega)
  unfold cp_rm cp_rn
  cases b with
  | true => exact ⟨k1, k2⟩
  | false =>
    rw [if_neg (show ¬ false = true by decide)]
    dsimp only
    by_cases ho : l % 2 = 0
    · rw [if_pos ho, if_pos ho, hh.1.2.2.2.2, k1, pk_sub (k3 ho hl)]
      exact ⟨rfl, by omega⟩
    · rw [if_neg ho, if_neg ho]
      exact ⟨rfl, by omega⟩
theorem cp_FR (hN : cp_net S p f0 a1 a2 a3 a4 a5) (hF : cp_F S p f a6) : cp_RM S (cp_pat p f (2 * S.length) 0) a5 a6 := by
  intro l hl b
  obtain ⟨e, h⟩ := cp_rmn b hN hF hl
  rw [cp_pat_R hl, e]
  have k := nI_eq (a := cp_rn p f l b) (b := 0) (by omega) (by omega)
  rw [nI_0] at k
  exact k
theorem cp_wi_n (hN : cp_net S p f0 a1 a2 a3 a4 a5) (hF : cp_F S p f a6) : ∀ (W : List (Nat × Bool)) (w : Nat), (∀ q, q ∈ W → q.1 < 2 * S.length) → w ≤ 1000000 → cp_wi a5 a6 W (nI w) = nI (cp_wd p f W w) ∧ cp_wd p f W w ≤ 1000000 := by
  intro W
  induction W with
  | nil => intro w _ hw; exact ⟨rfl, hw⟩
  | cons q W ih =>
    intro w hq hw
    obtain ⟨l, b⟩ := q
    have hl : l < 2 * S.length := hq (l, b) (by simp)
    obtain ⟨e, h⟩ := cp_rmn b hN hF hl
    rw [cp_wi, cp_wd, e]
    have hW : ∀ q, q ∈ W → q.1 < 2 * S.length := fun q h => hq q (by simp [h])
    by_cases hle : w ≤ cp_rn p f l b
    · rw [if_pos hle, if_pos (nI_le hle (by omega))]
      exact ih w hW hw
    · rw [if_neg hle, if_neg (nI_ge (by omega) (by omega))]
      exact ih _ hW (by omega)
theorem cp_F_set {g : Nat} (hF : cp_F S p f a6) (hl : l < 14) (hg : g ≤ 1000000000) (hg2 : l % 2 = 0 → l < 2 * S.length → g ≤ cp_g 0 p (l / 2)) : cp_F S p (cp_s f l g) (upd a6 l (nI g)) := by
  obtain ⟨h1, h2⟩ := hF
  refine ⟨by rw [cp_len_s, h1], fun v hv => ?_⟩
  rw [cp_g_s f l v g (by omega)]
  by_cases e : v = l
  · rw [if_pos e, e, pk_us]
    exact ⟨rfl, hg, hg2⟩
  · rw [if_neg e, pk_un e]
    exact h2 v hv
theorem cp_put_F {w : Nat} (hp : ∀ j, j < S.length → cp_g 0 p j ≤ 20) (h7 : S.length ≤ 7) : ∀ (W : List (Nat × Bool)) (f g : List Nat) (a6 : Nat → Int32), (∀ q, q ∈ W → q.1 < 2 * S.length) → cp_F S p f a6 → cp_put p w W f = some g → cp_F S p g (cp_sd (nI w) W a6) := by
  intro W
  induction W with
  | nil =>
    intro f g a6 _ hF h
    have e : f = g := Option.some.inj h
    rw [← e]
    exact hF
  | cons q W ih =>
    intro f g a6 hq hF h
    obtain ⟨l, b⟩ := q
    have hl : l < 2 * S.length := hq (l, b) (by simp)
    have hW : ∀ q, q ∈ W → q.1 < 2 * S.length := fun q h => hq q (by simp [h])
    obtain ⟨k1, k2, k3⟩ := hF.2 l (by omega)
    have hp2 := hp (l / 2) (by omega)
    rw [cp_put] at h
    rw [cp_sd, k1]
    cases b with
    | true =>
      rw [if_pos rfl] at h ⊢
      by_cases hle : w ≤ cp_g 0 f l
      · rw [if_pos hle, cp_fL_eq] at h
        rw [show nI (cp_g 0 f l) + -nI w = nI (cp_g 0 f l - w) by rw [← pk_sub hle]; grind]
        exact ih _ g _ hW (cp_F_set hF (by omega) (by omega) (fun ho hl => by have := k3 ho hl; omega)) h
      · rw [if_neg hle] at h
        exact absurd h (by simp)
    | false =>
      rw [if_neg (by decide)] at h ⊢
      by_cases hle : cp_g 0 f l + w ≤ (if l % 2 = 0 then cp_g 0 p (l / 2) else 1000000000)
      · rw [if_pos hle, cp_fL_eq] at h
        rw [nI_add]
        refine ih _ g _ hW (cp_F_set hF (by omega) ?_ (fun ho hl => ?_)) h
        · split at hle <;> omega
        · rw [if_pos ho] at hle
          exact hle
      · rw [if_neg hle] at h
        exact absurd h (by simp)
end
end
section
/-! walk: sendAll -/
/-- ways known: V -/
def cp_wy (V : List (Nat × Nat)) (f1 f2 : Int32) (a10 a11 : Nat → Int32) : Prop :=
  f1 = 1 ∧ f2 = nI V.length ∧ V.length ≤ 149 ∧ ∀ j, j < V.length → a10 j = nI (cp_g (0, 0) V j).1 ∧ a11 j = nI (cp_g (0, 0) V j).2 ∧ (cp_g (0, 0) V j).1 ≤ 1512 ∧ (cp_g (0, 0) V j).2 ≤ 1000000
/-- the ways from place i on: V -/
def cp_wv (V : List (Nat × Nat)) (i : Nat) (a10 a11 : Nat → Int32) : Prop :=
  ∀ j, j < V.length → a10 (i + j) = nI (cp_g (0, 0) V j).1 ∧ a11 (i + j) = nI (cp_g (0, 0) V j).2 ∧ (cp_g (0, 0) V j).1 ≤ 1512 ∧ (cp_g (0, 0) V j).2 ≤ 1000000
theorem cp_find_s {S : List cp_Sh} {P : List (Bool × Bool)} {A : Nat} {W : List (Nat × Bool)} (h : cp_find S P = some (A, W)) : cp_g 0 (cp_fl S P).1 5 = A ∧ (A ≠ 0 → cp_way S (cp_fl S P).1 (cp_fl S P).2 6 5 = some W) := by
  unfold cp_find at h
  generalize cp_fl S P = s at h ⊢
  obtain ⟨Lo, La⟩ := s
  dsimp only at h ⊢
  by_cases h0 : cp_g 0 Lo 5 = 0
  · rw [if_pos h0] at h
    have e := Prod.mk.inj (Option.some.inj h)
    exact ⟨h0.trans e.1, fun z => absurd e.1.symm z⟩
  · rw [if_neg h0] at h
    cases e : cp_way S Lo La 6 5 with
    | none => rw [e] at h; exact absurd h (by simp)
    | some V =>
      rw [e] at h
      have e' := Prod.mk.inj (Option.some.inj h)
      exact ⟨e'.1, fun _ => by rw [e'.2]⟩
section
variable {f0 f1 f2 : Int32} {a1 a2 a3 a4 a5 a6 a7 a8 a9 a10 a11 : Nat → Int32} {S : List cp_Sh} {p : List Nat}
theorem cp_43 {post : St2 → Prop} (hN : cp_net S p f0 a1 a2 a3 a4 a5) : ∀ (n i : Nat) (f : List Nat) (V : List (Nat × Nat)) (a6 a7 a8 a9 a10 a11 : Nat → Int32), i + n ≤ 149 → cp_F S p f a6 → cp_run S p n f = some V →
    (∀ b6 b7 b8 b9 b10 b11, (∀ j, j < i → b10 j = a10 j ∧ b11 j = a11 j) → cp_wv V i b10 b11 → i + V.length ≤ 149 → post (f0, f1, nI (i + V.length), a1, a2, a3, a4, a5, b6, b7, b8, b9, b10, b11)) →
    wX_sendAll_43 post (n + 1) 1 (nI i) f0 f1 (nI i) a1 a2 a3 a4 a5 a6 a7 a8 a9 a10 a11 := by
  intro n
  induction n with
  | zero => intro i f V a6 a7 a8 a9 a10 a11 hi hF hr H; exact absurd hr (by simp [cp_run])
  | succ n ih =>
    intro i f V a6 a7 a8 a9 a10 a11 hi hF hr H
    refine pk_le 149 i (fun z => absurd z (by omega)) (fun _ => br_f (by decide) ?_)
    have h7 := hN.1
    refine cp_findLongest hN (cp_FR hN hF) (fun b7 b8 b9 hD => ?_)
    rw [cp_run, cp_fP_eq] at hr
    cases hf : cp_find S (cp_pat p f (2 * S.length) 0) with
    | none => rw [hf] at hr; exact absurd hr (by simp)
    | some q =>
      obtain ⟨A, W⟩ := q
      rw [hf] at hr
      dsimp only at hr
      obtain ⟨hA, hW⟩ := cp_find_s hf
      have D5 := hD.2.2 5 (by omega)
      rw [hA] at D5
      by_cases h0 : A = 0
      · rw [if_pos h0] at hr
        have eV : [] = V := Option.some.inj hr
        refine nm_r (D5.1 h0) (br_t rfl (nm_r (nI_1 i) ?_))
        have Hx : post (f0, f1, nI i, a1, a2, a3, a4, a5, a6, b7, b8, b9, a10, a11) := by
          have h := H a6 b7 b8 b9 a10 a11 (fun j _ => ⟨rfl, rfl⟩) (fun j hj => absurd hj (by rw [← eV]; simp)) (by rw [← eV]; simp; omega)
          rw [← eV] at h
          exact h
        exact pk_le 149 (i + 1) (fun _ => Hx) (fun _ => br_t rfl Hx)
      · obtain ⟨d1, d2, d3, d4, _⟩ := D5.2 h0
        rw [if_neg h0] at hr
        by_cases hA2 : A < 10000
        · rw [if_pos hA2] at hr
          exact absurd hr (by simp)
        · rw [if_neg hA2, cp_fN_eq] at hr
          have hW' := hW h0
          have hok := cp_way_ok 6 5 W hW'
          obtain ⟨ew, hw6⟩ := cp_wi_n hN hF W 1000000 hok (by omega)
          refine nm_r d1 (br_f (by decide) (cp_widthOfWay hN hD hW' ?_))
          rw [show (1000000 : Int32) = nI 1000000 from rfl, ew]
          rw [pk_sub (by omega)] at d2
          rw [nI_clamp (by omega), d2]
          generalize hwe : cp_wd p f W 1000000 = w at *
          refine ⟨pk_in i 150 (by omega), nm_e ⟨pk_in i 150 (by omega), nm_e (nm_r (nI_1 i) ?_)⟩⟩
          by_cases hE : 1000000 ≤ w
          · rw [if_pos hE] at hr
            have eV : [(A - 10000, w)] = V := Option.some.inj hr
            refine br_t (nI_le hE (by omega)) ?_
            unfold wX_sendAll_120
            refine cp_send hN hD hW' (nm_r (nI_1 i) ?_)
            have Hx := H (cp_sd (nI w) W a6) b7 b8 b9 (upd a10 i (nI (A - 10000))) (upd a11 i (nI w)) (fun j hj => ⟨pk_un (by omega), pk_un (by omega)⟩)
              (by
                rw [← eV]
                intro j hj
                have j0 : j = 0 := by simpa using hj
                subst j0
                exact ⟨pk_us, pk_us, by show A - 10000 ≤ 1512; omega, by show w ≤ 1000000; omega⟩)
              (by rw [← eV]; simp; omega)
            rw [← eV] at Hx
            exact pk_le 149 (i + 1) (fun _ => Hx) (fun _ => br_t rfl Hx)
          · rw [if_neg hE] at hr
            cases hp : cp_put p w W f with
            | none => rw [hp] at hr; exact absurd hr (by simp)
            | some g =>
              rw [hp] at hr
              dsimp only at hr
              cases hn : cp_run S p n g with
              | none => rw [hn] at hr; exact absurd hr (by simp)
              | some U =>
                rw [hn] at hr
                have eV : (A - 10000, w) :: U = V := Option.some.inj hr
                refine br_f (nI_ge (by omega) (by omega)) ?_
                unfold wX_sendAll_120
                refine cp_send hN hD hW' (nm_r (nI_1 i) ?_)
                have hF' := cp_put_F (w := w) (fun j hj => (hN.2.2.2 j hj).2.2.2.2.2) h7 W f g a6 hok hF hp
                refine ih (i + 1) g U _ b7 b8 b9 _ _ (by omega) hF' hn (fun c6 c7 c8 c9 c10 c11 hk hv hl => ?_)
                have Hx := H c6 c7 c8 c9 c10 c11 (fun j hj => by
                    rw [(hk j (by omega)).1, (hk j (by omega)).2]
                    exact ⟨pk_un (by omega), pk_un (by omega)⟩)
                  (by
                    rw [← eV]
                    intro j hj
                    cases j with
                    | zero =>
                      rw [Nat.add_zero, (hk i (by omega)).1, (hk i (by omega)).2, pk_us, pk_us]
                      exact ⟨rfl, rfl, by show A - 10000 ≤ 1512; omega, by show w ≤ 1000000; omega⟩
                    | succ j =>
                      have := hv j (by simpa using hj)
                      rw [show i + 1 + j = i + (j + 1) by omega] at this
                      exact this)
                  (by rw [← eV]; simp only [List.length_cons]; omega)
                rw [← eV] at Hx
                rw [show i + 1 + U.length = i + ((A - 10000, w) :: U).length by simp only [List.length_cons]; omega]
                exact Hx
def cp_zr (i : Nat) (a6 : Nat → Int32) : Prop := ∀ v, v < i → a6 v = 0
theorem cp_zr_F (hp : ∀ v : Nat, v < 14 → a6 v = 0) : cp_F S p cp_z14 a6 := by
  refine ⟨rfl, fun l hl => ?_⟩
  have hg : cp_g 0 cp_z14 l = 0 := by
    have q : l = 0 ∨ l = 1 ∨ l = 2 ∨ l = 3 ∨ l = 4 ∨ l = 5 ∨ l = 6 ∨ l = 7 ∨ l = 8 ∨ l = 9 ∨ l = 10 ∨ l = 11 ∨ l = 12 ∨ l = 13 := by omega
    rcases q with q | q | q | q | q | q | q | q | q | q | q | q | q | q <;> subst q <;> rfl
  rw [hg]
  exact ⟨hp l hl, by omega, fun _ _ => by omega⟩
theorem cp_sendAll {post : St2 → Prop} {V : List (Nat × Nat)} (hN : cp_net S p f0 a1 a2 a3 a4 a5) (hk : f1 = 0 ∨ cp_wy V f1 f2 a10 a11) (hr : cp_run S p 149 cp_z14 = some V)
    (H : ∀ g2 b6 b7 b8 b9 b10 b11, cp_wy V 1 g2 b10 b11 → post (f0, 1, g2, a1, a2, a3, a4, a5, b6, b7, b8, b9, b10, b11)) :
    wpX_sendAll post (f0, f1, f2, a1, a2, a3, a4, a5, a6, a7, a8, a9, a10, a11) := by
  unfold wpX_sendAll
  dsimp only
  rcases hk with hk | hk
  · refine br_t hk ?_
    refine pk_loop (fun n i s => wX_sendAll_20 post f0 1 0 n (nI i) a1 a2 a3 a4 a5 s a7 a8 a9 a10 a11) cp_zr 14 0 a6 (by omega) (fun v hv => absurd hv (by omega)) ?_ ?_
    · intro n s h
      refine pk_le 14 14 (fun _ => ⟨150, ?_⟩) (fun z => absurd z (by omega))
      refine cp_43 (post := post) hN 149 0 cp_z14 V s a7 a8 a9 a10 a11 (by omega) (cp_zr_F h) hr (fun b6 b7 b8 b9 b10 b11 _ hv hl => ?_)
      rw [Nat.zero_add] at hl ⊢
      refine H _ b6 b7 b8 b9 b10 b11 ⟨rfl, rfl, hl, fun j hj => ?_⟩
      have := hv j hj
      rw [Nat.zero_add] at this
      exact this
    · intro n i s hi h hw
      refine pk_le 14 i (fun z => absurd z (by omega)) (fun _ => ⟨pk_in i 14 hi, nm_r (by rw [nI_clamp (by omega)]) (nm_r (nI_1 i) (hw (upd s i 0) (fun v hv => ?_)))⟩)
      by_cases e : v = i
      · rw [e, pk_us]
      · rw [pk_un e]
        exact h v (by omega)
  · obtain ⟨k1, k2⟩ := hk
    refine br_f (by rw [k1]; decide) ?_
    rw [k1]
    exact H f2 a6 a7 a8 a9 a10 a11 ⟨rfl, k2⟩
end
end
section
/-! walk: costFor, cost, step, within, total, slowest, fastest -/
def cp_o (o : Option Nat) : Int32 := match o with
  | none => -1
  | some c => nI c
/-- a state with the net S at prices p; its ways, if known, are V -/
def cp_Q (S : List cp_Sh) (p : List Nat) (V : List (Nat × Nat)) (u : St2) : Prop := match u with
  | (f0, f1, f2, a1, a2, a3, a4, a5, a6, a7, a8, a9, a10, a11) => cp_net S p f0 a1 a2 a3 a4 a5 ∧ (f1 = 0 ∨ cp_wy V f1 f2 a10 a11)
section
variable {f0 f1 f2 : Int32} {a1 a2 a3 a4 a5 a6 a7 a8 a9 a10 a11 : Nat → Int32} {S : List cp_Sh} {p : List Nat} {V : List (Nat × Nat)} {u : St2}
theorem cp_cf4 {post : Int32 → Prop} {t : Nat} (hw : cp_wy V f1 f2 a10 a11) (ht : t < 2 ^ 31) : ∀ (U : List (Nat × Nat)) (j s : Nat), (∀ i, i < U.length → cp_g (0, 0) V (j + i) = cp_g (0, 0) U i) → j + U.length = V.length → post (cp_o (cp_cst U t s)) →
    wX_costFor_4 post (nI t) f0 f1 f2 a1 a2 a3 a4 a5 a6 a7 a8 a9 a10 a11 (U.length + 1) (nI s) (nI j) := by
  obtain ⟨_, k2, k3, k4⟩ := hw
  intro U
  induction U with
  | nil =>
    intro j s _ hj H
    have hj' : j = V.length := by simpa using hj
    exact pk_le V.length j (fun _ => H) (fun z => absurd z (by omega)) k2 rfl (by omega) (by omega)
  | cons q U ih =>
    intro j s hg hj H
    obtain ⟨a, w⟩ := q
    rw [List.length_cons] at hj
    have e : cp_g (0, 0) V j = (a, w) := hg 0 (by simp)
    obtain ⟨e10, e11, ha, hw⟩ := k4 j (by omega)
    rw [e] at e10 e11 ha hw
    dsimp only at e10 e11 ha hw
    have hU : ∀ i, i < U.length → cp_g (0, 0) V (j + 1 + i) = cp_g (0, 0) U i := fun i hi => by
      have := hg (i + 1) (by simpa using hi)
      rw [show j + (i + 1) = j + 1 + i by omega] at this
      exact this
    refine pk_le V.length j (fun z => absurd z (by omega)) (fun _ => ⟨pk_in j 150 (by omega), ?_⟩) k2 rfl (by omega) (by omega)
    rw [nI_clamp (by omega), e10, e11]
    rw [cp_cst] at H
    refine pk_le a t (fun z => ?_) (fun z => ⟨pk_in j 150 (by omega), pk_lt w 1000000 (fun z2 => ⟨pk_in j 150 (by omega), pk_in j 150 (by omega), nm_r (e' := nI (s + w * (a - t))) ?_ (nm_r (nI_1 j) ?_)⟩) (fun z2 => ?_)⟩)
    · rw [if_pos z] at H
      exact nm_r (nI_1 j) (ih (j + 1) s hU (by omega) H)
    · rw [pk_sub (by omega), pk_mul, nI_add]
    · rw [if_neg (by omega), if_pos z2] at H
      exact ih (j + 1) _ hU (by omega) H
    · rw [if_neg (by omega), if_neg (by omega)] at H
      exact H
theorem cp_costFor {post : Int32 → Prop} {t : Nat} (hw : cp_wy V f1 f2 a10 a11) (ht : t < 2 ^ 31) (H : post (cp_o (cp_cst V t 0))) :
    wpX_costFor post (f0, f1, f2, a1, a2, a3, a4, a5, a6, a7, a8, a9, a10, a11) (nI t) :=
  ⟨V.length + 1, cp_cf4 hw ht V 0 0 (fun i _ => by rw [Nat.zero_add]) (by omega) H⟩
theorem cp_cost {post : Int32 → St2 → Prop} {t : Nat} (hQ : cp_Q S p V u) (hr : cp_run S p 149 cp_z14 = some V) (ht : t < 2 ^ 31) (H : ∀ u', cp_Q S p V u' → post (cp_o (cp_cst V t 0)) u') : wpX_cost post u (nI t) := by
  obtain ⟨f0, f1, f2, a1, a2, a3, a4, a5, a6, a7, a8, a9, a10, a11⟩ := u
  obtain ⟨hN, hk⟩ := hQ
  unfold wpX_cost
  dsimp only
  exact br_t (nI_pos' ht) (cp_sendAll hN hk hr (fun g2 b6 b7 b8 b9 b10 b11 hw => cp_costFor hw ht (H _ ⟨hN, Or.inr hw⟩)))
theorem cp_cost_n {post : Int32 → St2 → Prop} {x : Int32} (hx : ¬ 0 ≤ x) (H : post (-1) u) : wpX_cost post u x := by
  obtain ⟨f0, f1, f2, a1, a2, a3, a4, a5, a6, a7, a8, a9, a10, a11⟩ := u
  unfold wpX_cost
  dsimp only
  exact br_f hx H
def cp_sp (V : List (Nat × Nat)) (t : Nat) : Int32 := match cp_cst V t 0 with
  | none => -1
  | some c => if t ≤ 1000 then nI c - cp_o (cp_cst V (t + 1) 0) else 0
theorem cp_step {post : Int32 → St2 → Prop} {t : Nat} (hQ : cp_Q S p V u) (hr : cp_run S p 149 cp_z14 = some V) (ht : t < 2 ^ 31) (hb : ∀ c, cp_cst V t 0 = some c → c < 2 ^ 31) (H : ∀ u', cp_Q S p V u' → post (cp_sp V t) u') : wpX_step post u (nI t) := by
  obtain ⟨f0, f1, f2, a1, a2, a3, a4, a5, a6, a7, a8, a9, a10, a11⟩ := u
  obtain ⟨hN, hk⟩ := hQ
  unfold wpX_step
  dsimp only
  refine br_t (nI_pos' ht) (cp_sendAll hN hk hr (fun g2 b6 b7 b8 b9 b10 b11 hw => cp_costFor hw ht ?_))
  have H' := H (f0, 1, g2, a1, a2, a3, a4, a5, b6, b7, b8, b9, b10, b11) ⟨hN, Or.inr hw⟩
  unfold cp_sp at H'
  cases e : cp_cst V t 0 with
  | none =>
    rw [e] at H'
    exact br_f (by decide) H'
  | some c =>
    rw [e] at H'
    dsimp only at H'
    refine br_t (nI_pos' (hb c e)) (pk_le t 1000 (fun z => ?_) (fun z => ?_))
    · rw [nI_1]
      refine cp_costFor hw (by omega) ?_
      rw [if_pos z] at H'
      exact H'
    · rw [if_neg (by omega)] at H'
      exact H'
theorem cp_step_n {post : Int32 → St2 → Prop} {x : Int32} (hx : ¬ 0 ≤ x) (H : post (-1) u) : wpX_step post u x := by
  obtain ⟨f0, f1, f2, a1, a2, a3, a4, a5, a6, a7, a8, a9, a10, a11⟩ := u
  unfold wpX_step
  dsimp only
  exact br_f hx H
theorem cp_slowest {post : Int32 → St2 → Prop} (hQ : cp_Q S p V u) (hr : cp_run S p 149 cp_z14 = some V) (H : ∀ u', cp_Q S p V u' → post (nI (cp_g (0, 0) V 0).1) u') : wpX_slowest post u := by
  obtain ⟨f0, f1, f2, a1, a2, a3, a4, a5, a6, a7, a8, a9, a10, a11⟩ := u
  obtain ⟨hN, hk⟩ := hQ
  unfold wpX_slowest
  dsimp only
  refine cp_sendAll hN hk hr (fun g2 b6 b7 b8 b9 b10 b11 hw => ?_)
  have H' := H (f0, 1, g2, a1, a2, a3, a4, a5, b6, b7, b8, b9, b10, b11) ⟨hN, Or.inr hw⟩
  obtain ⟨_, k2, k3, k4⟩ := hw
  refine pk_eq V.length 0 (fun z => ?_) (fun z => ?_) k2 rfl (by omega) (by omega)
  · have e : V = [] := List.length_eq_zero_iff.mp z
    rw [e] at H'
    exact H'
  · dsimp only
    rw [(k4 0 (by omega)).1]
    exact H'
theorem cp_fastest {post : Int32 → St2 → Prop} (hQ : cp_Q S p V u) (hr : cp_run S p 149 cp_z14 = some V) (H : ∀ u', cp_Q S p V u' → post (nI (cp_g (0, 0) V (V.length - 1)).1) u') : wpX_fastest post u := by
  obtain ⟨f0, f1, f2, a1, a2, a3, a4, a5, a6, a7, a8, a9, a10, a11⟩ := u
  obtain ⟨hN, hk⟩ := hQ
  unfold wpX_fastest
  dsimp only
  refine cp_sendAll hN hk hr (fun g2 b6 b7 b8 b9 b10 b11 hw => ?_)
  have H' := H (f0, 1, g2, a1, a2, a3, a4, a5, b6, b7, b8, b9, b10, b11) ⟨hN, Or.inr hw⟩
  obtain ⟨_, k2, k3, k4⟩ := hw
  refine pk_eq V.length 0 (fun z => ?_) (fun z => ?_) k2 rfl (by omega) (by omega)
  · have e : V = [] := List.length_eq_zero_iff.mp z
    rw [e] at H'
    exact H'
  · have e1 : g2 - 1 = nI (V.length - 1) := by
      rw [k2]
      exact pk_sub (a := V.length) (b := 1) (by omega)
    dsimp only
    rw [e1, nI_clamp (by omega), (k4 (V.length - 1) (by omega)).1]
    exact ⟨pk_in (V.length - 1) 150 (by omega), H'⟩
theorem cp_within {post : Int32 → St2 → Prop} {β t0 : Nat} (hQ : cp_Q S p V u) (hr : cp_run S p 149 cp_z14 = some V) (hβ : β < 2 ^ 31) (h0 : t0 ≤ 45) (hlow : ∀ t, t < t0 → ∀ c, cp_cst V t 0 = some c → β < c ∧ c < 2 ^ 31) (hat : ∃ c, cp_cst V t0 0 = some c ∧ c ≤ β) (H : ∀ u', cp_Q S p V u' → post (nI t0) u') : wpX_within post u (nI β) := by
  obtain ⟨f0, f1, f2, a1, a2, a3, a4, a5, a6, a7, a8, a9, a10, a11⟩ := u
  obtain ⟨hN, hk⟩ := hQ
  unfold wpX_within
  dsimp only
  refine br_t (nI_pos' hβ) (cp_sendAll hN hk hr (fun g2 b6 b7 b8 b9 b10 b11 hw => ?_))
  have H' := H (f0, 1, g2, a1, a2, a3, a4, a5, b6, b7, b8, b9, b10, b11) ⟨hN, Or.inr hw⟩
  refine pk_loop (σ := Unit) (fun n i _ => wX_within_12 post (nI β) f0 1 g2 a1 a2 a3 a4 a5 b6 b7 b8 b9 b10 b11 n (nI i)) (fun _ _ => True) t0 0 () (by omega) trivial ?_ ?_
  · intro n s _
    refine pk_lt 45 t0 (fun z => absurd z (by omega)) (fun _ => cp_costFor hw (by omega) ?_)
    obtain ⟨c, e, hc⟩ := hat
    rw [e]
    exact br_f (nI_pos (by omega)) (br_f (nI_nlt hc (by omega)) H')
  · intro n i s hi _ hs
    refine pk_lt 45 i (fun z => absurd z (by omega)) (fun _ => cp_costFor hw (by omega) ?_)
    cases e : cp_cst V i 0 with
    | none => exact br_t (by decide) (nm_r (nI_1 i) (hs () trivial))
    | some c =>
      obtain ⟨c1, c2⟩ := hlow i hi c e
      exact br_f (nI_pos (by omega)) (br_t (nI_lt c1 c2) (nm_r (nI_1 i) (hs () trivial)))
theorem cp_within_n {post : Int32 → St2 → Prop} {x : Int32} (hx : ¬ 0 ≤ x) (H : post (-1) u) : wpX_within post u x := by
  obtain ⟨f0, f1, f2, a1, a2, a3, a4, a5, a6, a7, a8, a9, a10, a11⟩ := u
  unfold wpX_within
  dsimp only
  exact br_f hx H
def cp_TI (V : List (Nat × Nat)) (q i : Nat) (s : Int32) : Prop :=
  (s = -1 ∧ ∀ t, t < i → cp_cst V t 0 = none) ∨ (∃ g, s = nI g ∧ g < 2 ^ 30 ∧ (∃ t, t < i ∧ ∃ c, cp_cst V t 0 = some c ∧ g = c + q * t) ∧ ∀ t, t < i → ∀ c, cp_cst V t 0 = some c → g ≤ c + q * t)
theorem cp_TI_n {q i : Nat} {s : Int32} (h : cp_TI V q i s) (e : cp_cst V i 0 = none) : cp_TI V q (i + 1) s := by
  rcases h with ⟨h1, h2⟩ | ⟨g, h1, h2, ⟨t, h3, h4⟩, h5⟩
  · exact Or.inl ⟨h1, lt_s h2 e⟩
  · refine Or.inr ⟨g, h1, h2, ⟨t, by omega, h4⟩, lt_s h5 (fun c hc => ?_)⟩
    rw [e] at hc
    exact absurd hc (by simp)
theorem cp_TI_k {q i g c : Nat} (h : cp_TI V q i (nI g)) (hg : g < 2 ^ 30) (e : cp_cst V i 0 = some c) (hle : g ≤ c + q * i) : cp_TI V q (i + 1) (nI g) := by
  rcases h with ⟨h1, h2⟩ | ⟨g', h1, h2, ⟨t, h3, h4⟩, h5⟩
  · have : nI g < 0 := by rw [h1]; decide
    exact absurd this (nI_pos (by omega))
  · have eg : g = g' := (nI_eq (by omega) (by omega)).mp h1
    subst eg
    refine Or.inr ⟨g, rfl, hg, ⟨t, by omega, h4⟩, lt_s h5 (fun c' hc => ?_)⟩
    rw [e] at hc
    rw [← Option.some.inj hc]
    exact hle
theorem cp_TI_s {q i c : Nat} {s : Int32} (h : cp_TI V q i s) (e : cp_cst V i 0 = some c) (hb : c + q * i < 2 ^ 30) (hs : ∀ g, g < 2 ^ 30 → s = nI g → c + q * i ≤ g) : cp_TI V q (i + 1) (nI (c + q * i)) := by
  refine Or.inr ⟨c + q * i, rfl, hb, ⟨i, by omega, c, e, rfl⟩, lt_s (fun t ht c' hc => ?_) (fun c' hc => ?_)⟩
  · rcases h with ⟨h1, h2⟩ | ⟨g, h1, h2, _, h5⟩
    · rw [h2 t ht] at hc
      exact absurd hc (by simp)
    · have k1 := hs g h2 h1
      have k2 := h5 t ht c' hc
      omega
  · rw [e] at hc
    rw [← Option.some.inj hc]
    omega
theorem cp_total {post : Int32 → St2 → Prop} {q m : Nat} (hQ : cp_Q S p V u) (hr : cp_run S p 149 cp_z14 = some V) (hq : q ≤ 200) (hb : ∀ t, t ≤ 45 → ∀ c, cp_cst V t 0 = some c → c + q * t < 2 ^ 30)
    (hex : ∃ t, t ≤ 45 ∧ ∃ c, cp_cst V t 0 = some c ∧ m = c + q * t) (hmin : ∀ t, t ≤ 45 → ∀ c, cp_cst V t 0 = some c → m ≤ c + q * t) (H : ∀ u', cp_Q S p V u' → post (nI m) u') : wpX_total post u (nI q) := by
  obtain ⟨f0, f1, f2, a1, a2, a3, a4, a5, a6, a7, a8, a9, a10, a11⟩ := u
  obtain ⟨hN, hk⟩ := hQ
  unfold wpX_total
  dsimp only
  refine br_f (nI_pos (by omega)) (pk_le q 200 (fun _ => ?_) (fun z => absurd z (by omega)))
  refine cp_sendAll hN hk hr (fun g2 b6 b7 b8 b9 b10 b11 hw => ?_)
  have H' := H (f0, 1, g2, a1, a2, a3, a4, a5, b6, b7, b8, b9, b10, b11) ⟨hN, Or.inr hw⟩
  refine pk_loop (σ := Int32) (fun n i s => wX_total_21 post (nI q) f0 1 g2 a1 a2 a3 a4 a5 b6 b7 b8 b9 b10 b11 n s (nI i)) (cp_TI V q) 46 0 (-1) (by omega) (Or.inl ⟨rfl, fun t ht => absurd ht (by omega)⟩) ?_ ?_
  · intro n s h
    refine pk_lt 45 46 (fun _ => ?_) (fun z => absurd z (by omega))
    obtain ⟨t, ht, c, hc, hm⟩ := hex
    rcases h with ⟨h1, h2⟩ | ⟨g, h1, h2, ⟨t', h3, c', h4, h4'⟩, h5⟩
    · rw [h2 t (by omega)] at hc
      exact absurd hc (by simp)
    · have k1 := h5 t (by omega) c hc
      have k2 := hmin t' (by omega) c' h4
      have eg : g = m := by omega
      rw [h1, eg]
      exact H'
  · intro n i s hi h hs
    refine pk_lt 45 i (fun z => absurd z (by omega)) (fun _ => cp_costFor hw (by omega) ?_)
    cases e : cp_cst V i 0 with
    | none => exact br_t (by decide) (nm_r (nI_1 i) (hs s (cp_TI_n h e)))
    | some c =>
      have hbi := hb i (by omega) c e
      have ee : nI c + nI q * nI i = nI (c + q * i) := by rw [pk_mul, nI_add]
      have K : (∀ g, g < 2 ^ 30 → s = nI g → c + q * i ≤ g) → wX_total_53 post (wX_total_21 post (nI q) f0 1 g2 a1 a2 a3 a4 a5 b6 b7 b8 b9 b10 b11 n) (nI q) (nI i) (nI c) f0 1 g2 a1 a2 a3 a4 a5 b6 b7 b8 b9 b10 b11 := fun hg =>
        nm_r ee (nm_r (nI_1 i) (hs _ (cp_TI_s h e hbi hg)))
      refine br_f (nI_pos (by omega)) ?_
      have h' := h
      rcases h' with ⟨h1, h2⟩ | ⟨g, h1, h2, _, h5⟩
      · refine br_t (by rw [h1]; decide) (K (fun g hg1 hg => ?_))
        have q1 : ¬ nI g < 0 := nI_pos (by omega)
        rw [← hg, h1] at q1
        exact absurd (by decide) q1
      · subst h1
        refine br_f (nI_pos (by omega)) (pk_le g (c + q * i) (fun z => nm_r (nI_1 i) (hs _ (cp_TI_k h h2 e z))) (fun z => K (fun g' hg1 hg' => ?_)) rfl ee (by omega) (by omega))
        have eg : g = g' := (nI_eq (by omega) (by omega)).mp hg'
        omega
theorem cp_total_n {post : Int32 → St2 → Prop} {x : Int32} (hx : x < 0 ∨ ¬ x ≤ 200) (H : post (-1) u) : wpX_total post u x := by
  obtain ⟨f0, f1, f2, a1, a2, a3, a4, a5, a6, a7, a8, a9, a10, a11⟩ := u
  unfold wpX_total
  dsimp only
  by_cases h : x < 0
  · exact br_t h H
  · exact br_f h (br_f (by rcases hx with k | k; exact absurd k h; exact k) H)
end
end
section
/-! walk: add, price, drop -/
section
variable {f0 f1 f2 : Int32} {a1 a2 a3 a4 a5 a6 a7 a8 a9 a10 a11 : Nat → Int32} {S : List cp_Sh} {p : List Nat} {V : List (Nat × Nat)} {u : St2}
theorem cp_net_add {a b s f x : Nat} (hN : cp_net S p f0 a1 a2 a3 a4 a5) (h7 : S.length < 7) (ha : a ≤ 5) (hb : b ≤ 5) (hs : s ≤ 9) (hf : f ≤ 9) (hx : x ≤ 20) :
    cp_net (S ++ [(a, b, s, f)]) (p ++ [x]) (nI (S.length + 1)) (upd a1 S.length (nI a)) (upd a2 S.length (nI b)) (upd a3 S.length (nI s)) (upd a4 S.length (nI f)) (upd a5 S.length (nI x)) := by
  obtain ⟨h1, h2, h3, h4⟩ := hN
  refine ⟨by simp; omega, by simp; omega, by simp, fun j hj => ?_⟩
  have hj' : j < S.length + 1 := by simpa using hj
  by_cases e : j = S.length
  · rw [e, pk_us, pk_us, pk_us, pk_us, pk_us]
    have eS : cp_at (S ++ [(a, b, s, f)]) S.length = (a, b, s, f) := cp_g_eq S
    have ep : cp_g 0 (p ++ [x]) S.length = x := by rw [← h2]; exact cp_g_eq p
    unfold cp_fr cp_to cp_sl cp_fa
    rw [eS, ep]
    exact ⟨⟨rfl, rfl, rfl, rfl, rfl⟩, ha, hb, hs, hf, hx⟩
  · rw [pk_un e, pk_un e, pk_un e, pk_un e, pk_un e]
    have eS : cp_at (S ++ [(a, b, s, f)]) j = cp_at S j := cp_g_lt S _ j (by omega)
    have ep : cp_g 0 (p ++ [x]) j = cp_g 0 p j := cp_g_lt p _ j (by omega)
    have k := h4 j (by omega)
    unfold cp_fr cp_to cp_sl cp_fa at k ⊢
    rw [eS, ep]
    exact k
theorem cp_add {post : Int32 → St2 → Prop} {a b s f x : Nat} (V' : List (Nat × Nat)) (hQ : cp_Q S p V u) (h7 : S.length < 7) (hab : a < b) (hb : b ≤ 5) (hf : f ≤ s) (hs : s ≤ 9) (hd : s - f ≤ 3) (hx1 : 1 ≤ x) (hx2 : x ≤ 20)
    (H : ∀ u', cp_Q (S ++ [(a, b, s, f)]) (p ++ [x]) V' u' → post (nI (S.length + 1)) u') : wpX_add post u (nI a) (nI b) (nI s) (nI f) (nI x) := by
  obtain ⟨f0, f1, f2, a1, a2, a3, a4, a5, a6, a7, a8, a9, a10, a11⟩ := u
  obtain ⟨hN, hk⟩ := hQ
  have e0 : f0 = nI S.length := hN.2.2.1
  unfold wpX_add
  dsimp only
  refine br_f (nI_pos (by omega)) (br_f (nI_ge hab (by omega)) (pk_lt 5 b (fun z => absurd z (by omega)) (fun _ => ?_)))
  unfold wX_add_19
  refine br_f (nI_pos (by omega)) (br_f (nI_nlt hf (by omega)) (pk_lt 9 s (fun z => absurd z (by omega)) (fun _ => pk_lt 3 (s - f) (fun z => absurd z (by omega)) (fun _ => ?_) rfl (pk_sub hf))))
  unfold wX_add_51
  rw [e0, nI_clamp (by omega)]
  refine pk_le 7 S.length (fun z => absurd z (by omega)) (fun _ => br_f (by decide) (br_f (by decide) (pk_lt x 1 (fun z => absurd z (by omega)) (fun _ => pk_le x 20 (fun _ => ?_) (fun z => absurd z (by omega))))))
  refine ⟨pk_in _ 7 h7, nm_e ⟨pk_in _ 7 h7, nm_e ⟨pk_in _ 7 h7, nm_e ⟨pk_in _ 7 h7, nm_e ⟨pk_in _ 7 h7, nm_e (nm_r (nI_1 _) ?_)⟩⟩⟩⟩⟩
  exact H (nI (S.length + 1), 0, f2, upd a1 S.length (nI a), upd a2 S.length (nI b), upd a3 S.length (nI s), upd a4 S.length (nI f), upd a5 S.length (nI x), a6, a7, a8, a9, a10, a11)
    ⟨cp_net_add hN h7 (by omega) hb hs (by omega) hx2, Or.inl rfl⟩
/-- a full planner takes no more -/
theorem cp_add_full {post : Int32 → St2 → Prop} {a b s f x : Nat} (hQ : cp_Q S p V u) (h7 : S.length = 7) (hab : a < b) (hb : b ≤ 5) (hf : f ≤ s) (hs : s ≤ 9) (hd : s - f ≤ 3)
    (H : post (-1) u) : wpX_add post u (nI a) (nI b) (nI s) (nI f) (nI x) := by
  obtain ⟨f0, f1, f2, a1, a2, a3, a4, a5, a6, a7, a8, a9, a10, a11⟩ := u
  obtain ⟨hN, hk⟩ := hQ
  have e0 : f0 = nI S.length := hN.2.2.1
  unfold wpX_add
  dsimp only
  refine br_f (nI_pos (by omega)) (br_f (nI_ge hab (by omega)) (pk_lt 5 b (fun z => absurd z (by omega)) (fun _ => ?_)))
  unfold wX_add_19
  refine br_f (nI_pos (by omega)) (br_f (nI_nlt hf (by omega)) (pk_lt 9 s (fun z => absurd z (by omega)) (fun _ => pk_lt 3 (s - f) (fun z => absurd z (by omega)) (fun _ => ?_) rfl (pk_sub hf))))
  unfold wX_add_51
  exact pk_le 7 S.length (fun _ => H) (fun z => absurd z (by omega)) rfl e0
theorem cp_price {post : Int32 → St2 → Prop} {i x : Nat} (V' : List (Nat × Nat)) (hQ : cp_Q S p V u) (hi : i < S.length) (hx1 : 1 ≤ x) (hx2 : x ≤ 20)
    (H : ∀ u', cp_Q S (cp_s p i x) V' u' → post (nI (cp_g 0 p i)) u') : wpX_price post u (nI i) (nI x) := by
  obtain ⟨f0, f1, f2, a1, a2, a3, a4, a5, a6, a7, a8, a9, a10, a11⟩ := u
  obtain ⟨hN, hk⟩ := hQ
  obtain ⟨h1, h2, h3, h4⟩ := hN
  have e5 := (h4 i hi).1.2.2.2.2
  unfold wpX_price
  dsimp only
  rw [nI_clamp (by omega), e5]
  refine br_f (nI_pos (by omega)) (pk_le S.length i (fun z => absurd z (by omega)) (fun _ => pk_lt x 1 (fun z => absurd z (by omega)) (fun _ => pk_le x 20 (fun _ => ⟨pk_in i 7 (by omega), nm_e ⟨pk_in i 7 (by omega), nm_e ?_⟩⟩) (fun z => absurd z (by omega)))) h3 rfl (by omega) (by omega))
  refine H (f0, 0, f2, a1, a2, a3, a4, upd a5 i (nI x), a6, a7, a8, a9, a10, a11) ⟨⟨h1, by rw [cp_len_s, h2], h3, fun j hj => ?_⟩, Or.inl rfl⟩
  have k := h4 j hj
  rw [cp_g_s p i j x (by omega)]
  by_cases e : j = i
  · rw [if_pos e, e, pk_us]
    rw [e] at k
    exact ⟨⟨k.1.1, k.1.2.1, k.1.2.2.1, k.1.2.2.2.1, rfl⟩, k.2.1, k.2.2.1, k.2.2.2.1, k.2.2.2.2.1, hx2⟩
  · rw [if_neg e, pk_un e]
    exact k
theorem cp_price_n {post : Int32 → St2 → Prop} {i x : Nat} (hQ : cp_Q S p V u) (hi : i < 2 ^ 31) (hx : x < 2 ^ 31) (hn : S.length ≤ i ∨ 20 < x) (H : post (-1) u) : wpX_price post u (nI i) (nI x) := by
  obtain ⟨f0, f1, f2, a1, a2, a3, a4, a5, a6, a7, a8, a9, a10, a11⟩ := u
  obtain ⟨hN, hk⟩ := hQ
  obtain ⟨h1, h2, h3, h4⟩ := hN
  unfold wpX_price
  dsimp only
  exact br_f (nI_pos (by omega)) (pk_le S.length i (fun _ => H) (fun _ => pk_lt x 1 (fun _ => H) (fun _ => pk_le x 20 (fun z => absurd z (by omega)) (fun _ => H))) h3 rfl (by omega) (by omega))
/-- shifted down from place i to place k -/
def cp_sh (i k : Nat) (a b : Nat → Int32) : Prop := ∀ j, b j = if i ≤ j ∧ j < k then a (j + 1) else a j
theorem cp_sh_0 {i : Nat} {a : Nat → Int32} : cp_sh i i a a := fun j => by rw [if_neg (by omega)]
theorem cp_sh_s {i k : Nat} {a b : Nat → Int32} (hk : i ≤ k) (h : cp_sh i k a b) : cp_sh i (k + 1) a (upd b k (b (k + 1))) := fun j => by
  by_cases e : j = k
  · rw [e, pk_us, h (k + 1), if_neg (by omega), if_pos (by omega)]
  · rw [pk_un e, h j]
    by_cases h2 : i ≤ j ∧ j < k
    · rw [if_pos h2, if_pos (by omega)]
    · rw [if_neg h2, if_neg (by omega)]
theorem cp_net_drop {i : Nat} {b1 b2 b3 b4 b5 : Nat → Int32} (hN : cp_net S p f0 a1 a2 a3 a4 a5) (hi : i < S.length) (k1 : cp_sh i (S.length - 1) a1 b1) (k2 : cp_sh i (S.length - 1) a2 b2) (k3 : cp_sh i (S.length - 1) a3 b3) (k4 : cp_sh i (S.length - 1) a4 b4) (k5 : cp_sh i (S.length - 1) a5 b5) :
    cp_net (cp_e S i) (cp_e p i) (nI (S.length - 1)) b1 b2 b3 b4 b5 := by
  obtain ⟨h1, h2, h3, h4⟩ := hN
  have l1 := cp_len_e S i hi
  have l2 := cp_len_e p i (by omega)
  refine ⟨by omega, by omega, by rw [show (cp_e S i).length = S.length - 1 by omega], fun j hj => ?_⟩
  have eS : cp_at (cp_e S i) j = if j < i then cp_at S j else cp_at S (j + 1) := cp_g_e S i j
  have ep : cp_g 0 (cp_e p i) j = if j < i then cp_g 0 p j else cp_g 0 p (j + 1) := cp_g_e p i j
  rw [k1 j, k2 j, k3 j, k4 j, k5 j]
  unfold cp_fr cp_to cp_sl cp_fa at h4 ⊢
  rw [eS, ep]
  by_cases e : j < i
  · rw [if_pos e, if_pos e, if_neg (by omega), if_neg (by omega), if_neg (by omega), if_neg (by omega), if_neg (by omega)]
    exact h4 j (by omega)
  · rw [if_neg e, if_neg e, if_pos (by omega), if_pos (by omega), if_pos (by omega), if_pos (by omega), if_pos (by omega)]
    exact h4 (j + 1) (by omega)
theorem cp_drop {post : Int32 → St2 → Prop} {i : Nat} (V' : List (Nat × Nat)) (hQ : cp_Q S p V u) (hi : i < S.length)
    (H : ∀ u', cp_Q (cp_e S i) (cp_e p i) V' u' → post (nI (S.length - 1)) u') : wpX_drop post u (nI i) := by
  obtain ⟨f0, f1, f2, a1, a2, a3, a4, a5, a6, a7, a8, a9, a10, a11⟩ := u
  obtain ⟨hN, hk⟩ := hQ
  have e0 : f0 = nI S.length := hN.2.2.1
  have h7 := hN.1
  unfold wpX_drop
  dsimp only
  refine br_f (nI_pos (by omega)) (pk_lt i S.length (fun _ => nm_r (e' := nI (S.length - 1)) (by rw [e0]; exact pk_sub (a := S.length) (b := 1) (by omega)) ?_) (fun z => absurd z (by omega)) rfl e0 (by omega) (by omega))
  refine pk_loop (σ := (Nat → Int32) × (Nat → Int32) × (Nat → Int32) × (Nat → Int32) × (Nat → Int32)) (fun n k s => wX_drop_26 post (nI (S.length - 1)) f1 f2 n (nI k) s.1 s.2.1 s.2.2.1 s.2.2.2.1 s.2.2.2.2 a6 a7 a8 a9 a10 a11)
    (fun k s => i ≤ k ∧ cp_sh i k a1 s.1 ∧ cp_sh i k a2 s.2.1 ∧ cp_sh i k a3 s.2.2.1 ∧ cp_sh i k a4 s.2.2.2.1 ∧ cp_sh i k a5 s.2.2.2.2) (S.length - 1) i (a1, a2, a3, a4, a5) (by omega) ⟨by omega, cp_sh_0, cp_sh_0, cp_sh_0, cp_sh_0, cp_sh_0⟩ ?_ ?_
  · intro n s h
    refine pk_le (S.length - 1) (S.length - 1) (fun _ => ?_) (fun z => absurd z (by omega)) rfl rfl (by omega) (by omega)
    exact H (nI (S.length - 1), 0, f2, s.1, s.2.1, s.2.2.1, s.2.2.2.1, s.2.2.2.2, a6, a7, a8, a9, a10, a11) ⟨cp_net_drop hN hi h.2.1 h.2.2.1 h.2.2.2.1 h.2.2.2.2.1 h.2.2.2.2.2, Or.inl rfl⟩
  · intro n k s hk h hw
    have e1 : nI k + 1 = nI (k + 1) := nI_1 k
    have M := hw (upd s.1 k (s.1 (k + 1)), upd s.2.1 k (s.2.1 (k + 1)), upd s.2.2.1 k (s.2.2.1 (k + 1)), upd s.2.2.2.1 k (s.2.2.2.1 (k + 1)), upd s.2.2.2.2 k (s.2.2.2.2 (k + 1)))
      ⟨by omega, cp_sh_s h.1 h.2.1, cp_sh_s h.1 h.2.2.1, cp_sh_s h.1 h.2.2.2.1, cp_sh_s h.1 h.2.2.2.2.1, cp_sh_s h.1 h.2.2.2.2.2⟩
    refine pk_le (S.length - 1) k (fun z => absurd z (by omega)) (fun _ => ?_) rfl rfl (by omega) (by omega)
    rw [e1, nI_clamp (show k + 1 < 2 ^ 31 by omega), nI_clamp (show k < 2 ^ 31 by omega)]
    exact ⟨pk_in (k + 1) 7 (by omega), pk_in k 7 (by omega), nm_e ⟨pk_in (k + 1) 7 (by omega), pk_in k 7 (by omega), nm_e ⟨pk_in (k + 1) 7 (by omega), pk_in k 7 (by omega), nm_e ⟨pk_in (k + 1) 7 (by omega), pk_in k 7 (by omega), nm_e ⟨pk_in (k + 1) 7 (by omega), pk_in k 7 (by omega), nm_e (nm_e M)⟩⟩⟩⟩⟩
theorem cp_drop_n {post : Int32 → St2 → Prop} {x : Int32} (hQ : cp_Q S p V u) (hx : x < 0 ∨ ¬ x < nI S.length) (H : post (-1) u) : wpX_drop post u x := by
  obtain ⟨f0, f1, f2, a1, a2, a3, a4, a5, a6, a7, a8, a9, a10, a11⟩ := u
  obtain ⟨hN, hk⟩ := hQ
  have e0 : f0 = nI S.length := hN.2.2.1
  unfold wpX_drop
  dsimp only
  by_cases h : x < 0
  · exact br_t h H
  · refine br_f h (br_f ?_ H)
    rw [e0]
    rcases hx with k | k
    · exact absurd k h
    · exact k
end
end
section
/-! runs: no jobs, two jobs, three jobs with any prices -/
theorem cp_run0 : cp_run [] [] 149 cp_z14 = some [] := by decide +kernel
def cp_S1 (e : Nat) : List cp_Sh := [(0, e, 5, 2), (0, e, 5, 2)]
def cp_S2 (k e : Nat) : List cp_Sh := [(0, e, 5, 2), (0, e, 5, 2), (e, 5, 4 + k, 4)]
theorem cp_t1 : ∀ e, e < 4 → cp_find (cp_S1 (e + 1)) [(true, false), (true, false), (true, false), (true, false)] = some (0, []) := by decide +kernel
theorem cp_run1 {e x y : Nat} (he : e < 4) (hx : 1 ≤ x) (hy : 1 ≤ y) : cp_run (cp_S1 (e + 1)) [x, y] 149 cp_z14 = some [] := by
  refine cp_run_end (W := []) ?_
  have hp : cp_pat [x, y] cp_z14 (2 * (cp_S1 (e + 1)).length) 0 = [(decide (x - 0 ≠ 0), false), (true, false), (decide (y - 0 ≠ 0), false), (true, false)] := rfl
  rw [hp, decide_eq_true (show x - 0 ≠ 0 by omega), decide_eq_true (show y - 0 ≠ 0 by omega)]
  exact cp_t1 e he
/-- flows on three jobs' lines -/
def cp_F6 (f0 f1 f2 f3 f4 f5 : Nat) : List Nat := [f0, f1, f2, f3, f4, f5, 0, 0, 0, 0, 0, 0, 0, 0]
theorem cp_pat3 {x y z f0 f1 f2 f3 f4 f5 : Nat} {u0 v0 v1 u2 v2 v3 u4 v4 v5 : Bool} (h0 : decide (x - f0 ≠ 0) = u0) (g0 : decide (f0 ≠ 0) = v0) (g1 : decide (f1 ≠ 0) = v1) (h2 : decide (y - f2 ≠ 0) = u2) (g2 : decide (f2 ≠ 0) = v2) (g3 : decide (f3 ≠ 0) = v3) (h4 : decide (z - f4 ≠ 0) = u4) (g4 : decide (f4 ≠ 0) = v4) (g5 : decide (f5 ≠ 0) = v5) :
    cp_pat [x, y, z] (cp_F6 f0 f1 f2 f3 f4 f5) 6 0 = [(u0, v0), (true, v1), (u2, v2), (true, v3), (u4, v4), (true, v5)] := by
  subst h0 g0 g1 h2 g2 g3 h4 g4 g5
  rfl
theorem cp_wd2 {p f : List Nat} {l m r1 r2 w : Nat} {b c : Bool} (h1 : cp_rn p f l b = r1) (h2 : cp_rn p f m c = r2) (k1 : w ≤ 1000000) (k2 : w ≤ r1) (k3 : w ≤ r2) (k4 : w = 1000000 ∨ w = r1 ∨ w = r2) : cp_wd p f [(l, b), (m, c)] 1000000 = w := by
  rw [cp_wd, cp_wd, cp_wd, h1, h2]
  by_cases e : 1000000 ≤ r1
  · rw [if_pos e]
    split <;> omega
  · rw [if_neg e]
    split <;> omega
theorem cp_put2 {p f g : List Nat} {w l m u v c1 c2 : Nat} (h1 : u + w ≤ c1) (h2 : v + w ≤ c2) (hu : cp_g 0 f l = u := by rfl) (hc1 : (if l % 2 = 0 then cp_g 0 p (l / 2) else 1000000000) = c1 := by rfl) (hv : cp_g 0 (cp_s f l (u + w)) m = v := by rfl) (hc2 : (if m % 2 = 0 then cp_g 0 p (m / 2) else 1000000000) = c2 := by rfl) (hg : cp_s (cp_s f l (u + w)) m (v + w) = g := by rfl) :
    cp_put p w [(l, false), (m, false)] f = some g := by
  rw [cp_put, if_neg (by decide), hu, hc1, if_pos h1, cp_fL_eq, cp_put, if_neg (by decide), hv, hc2, if_pos h2, cp_fL_eq, cp_put, hg]
section
variable {S : List cp_Sh} {x y z f0 f1 f2 f3 f4 f5 g0 g1 g2 g4 g5 n a w : Nat} {V : List (Nat × Nat)}
theorem cp_r40 (h : cp_find S (cp_pat [x, y, z] (cp_F6 f0 f1 f2 f3 f4 f5) (2 * S.length) 0) = some (10000 + a, [(4, false), (0, false)])) (hw1 : w ≤ z - f4) (hw2 : w ≤ x - f0) (hw3 : w = z - f4 ∨ w = x - f0) (hz : z ≤ 20) (b0 : f0 ≤ x) (b4 : f4 ≤ z) (e0 : f0 + w = g0) (e4 : f4 + w = g4)
    (hr : cp_run S [x, y, z] n (cp_F6 g0 f1 f2 f3 g4 f5) = some V) : cp_run S [x, y, z] (n + 1) (cp_F6 f0 f1 f2 f3 f4 f5) = some ((a, w) :: V) := by
  subst e0 e4
  exact cp_run_step h (cp_wd2 (r1 := z - f4) (r2 := x - f0) rfl rfl (by omega) (by omega) (by omega) (by omega)) (by omega) (cp_put2 (u := f4) (v := f0) (c1 := z) (c2 := x) (by omega) (by omega)) hr
theorem cp_r42 (h : cp_find S (cp_pat [x, y, z] (cp_F6 f0 f1 f2 f3 f4 f5) (2 * S.length) 0) = some (10000 + a, [(4, false), (2, false)])) (hw1 : w ≤ z - f4) (hw2 : w ≤ y - f2) (hw3 : w = z - f4 ∨ w = y - f2) (hz : z ≤ 20) (b2 : f2 ≤ y) (b4 : f4 ≤ z) (e2 : f2 + w = g2) (e4 : f4 + w = g4)
    (hr : cp_run S [x, y, z] n (cp_F6 f0 f1 g2 f3 g4 f5) = some V) : cp_run S [x, y, z] (n + 1) (cp_F6 f0 f1 f2 f3 f4 f5) = some ((a, w) :: V) := by
  subst e2 e4
  exact cp_run_step h (cp_wd2 (r1 := z - f4) (r2 := y - f2) rfl rfl (by omega) (by omega) (by omega) (by omega)) (by omega) (cp_put2 (u := f4) (v := f2) (c1 := z) (c2 := y) (by omega) (by omega)) hr
theorem cp_r41 (h : cp_find S (cp_pat [x, y, z] (cp_F6 f0 f1 f2 f3 f4 f5) (2 * S.length) 0) = some (10000 + a, [(4, false), (1, false)])) (hw1 : w = z - f4) (hz : z ≤ 20) (b1 : f1 ≤ 1000) (b4 : f4 ≤ z) (e1 : f1 + w = g1) (e4 : f4 + w = g4)
    (hr : cp_run S [x, y, z] n (cp_F6 f0 g1 f2 f3 g4 f5) = some V) : cp_run S [x, y, z] (n + 1) (cp_F6 f0 f1 f2 f3 f4 f5) = some ((a, w) :: V) := by
  subst e1 e4
  exact cp_run_step h (cp_wd2 (r1 := z - f4) (r2 := 1000000) rfl rfl (by omega) (by omega) (by omega) (by omega)) (by omega) (cp_put2 (u := f4) (v := f1) (c1 := z) (c2 := 1000000000) (by omega) (by omega)) hr
theorem cp_r52 (h : cp_find S (cp_pat [x, y, z] (cp_F6 f0 f1 f2 f3 f4 f5) (2 * S.length) 0) = some (10000 + a, [(5, false), (2, false)])) (hw1 : w = y - f2) (hy : y ≤ 20) (b2 : f2 ≤ y) (b5 : f5 ≤ 1000) (e2 : f2 + w = g2) (e5 : f5 + w = g5)
    (hr : cp_run S [x, y, z] n (cp_F6 f0 f1 g2 f3 f4 g5) = some V) : cp_run S [x, y, z] (n + 1) (cp_F6 f0 f1 f2 f3 f4 f5) = some ((a, w) :: V) := by
  subst e2 e5
  exact cp_run_step h (cp_wd2 (r1 := 1000000) (r2 := y - f2) rfl rfl (by omega) (by omega) (by omega) (by omega)) (by omega) (cp_put2 (u := f5) (v := f2) (c1 := 1000000000) (c2 := y) (by omega) (by omega)) hr
theorem cp_r50 (h : cp_find S (cp_pat [x, y, z] (cp_F6 f0 f1 f2 f3 f4 f5) (2 * S.length) 0) = some (10000 + a, [(5, false), (0, false)])) (hw1 : w = x - f0) (hx : x ≤ 20) (b0 : f0 ≤ x) (b5 : f5 ≤ 1000) (e0 : f0 + w = g0) (e5 : f5 + w = g5)
    (hr : cp_run S [x, y, z] n (cp_F6 g0 f1 f2 f3 f4 g5) = some V) : cp_run S [x, y, z] (n + 1) (cp_F6 f0 f1 f2 f3 f4 f5) = some ((a, w) :: V) := by
  subst e0 e5
  exact cp_run_step h (cp_wd2 (r1 := 1000000) (r2 := x - f0) rfl rfl (by omega) (by omega) (by omega) (by omega)) (by omega) (cp_put2 (u := f5) (v := f0) (c1 := 1000000000) (c2 := x) (by omega) (by omega)) hr
theorem cp_r51 (h : cp_find S (cp_pat [x, y, z] (cp_F6 f0 f1 f2 f3 f4 f5) (2 * S.length) 0) = some (10000 + a, [(5, false), (1, false)])) : cp_run S [x, y, z] (n + 1) (cp_F6 f0 f1 f2 f3 f4 f5) = some [(a, 1000000)] :=
  cp_run_last h (cp_wd2 (r1 := 1000000) (r2 := 1000000) rfl rfl (by omega) (by omega) (by omega) (by omega))
end
/-! the ways under each pattern (TF: unused, TT: part, FT: full) -/
theorem cp_all {n : Nat} {f : Nat → Bool} (h : (List.range n).all f = true) {i : Nat} (hi : i < n) : f i = true := List.all_eq_true.mp h i (List.mem_range.mpr hi)
def cp_ck (P : List (Bool × Bool)) (A : Nat → Nat) (W : List (Nat × Bool)) : Bool := (List.range 4).all fun k => (List.range 4).all fun e => decide (cp_find (cp_S2 k (e + 1)) P = some (10000 + A k, W))
theorem cp_ck_s {P : List (Bool × Bool)} {A : Nat → Nat} {W : List (Nat × Bool)} (h : cp_ck P A W = true) {k e : Nat} (hk : k < 4) (he : e < 4) : cp_find (cp_S2 k (e + 1)) P = some (10000 + A k, W) :=
  of_decide_eq_true (cp_all (cp_all h hk) he)
theorem cp_p0 {k e : Nat} (hk : k < 4) (he : e < 4) : cp_find (cp_S2 k (e + 1)) [(true, false), (true, false), (true, false), (true, false), (true, false), (true, false)] = some (10000 + (9 + k), [(4, false), (0, false)]) := cp_ck_s (A := fun k => 9 + k) (by decide +kernel) hk he
theorem cp_pA {k e : Nat} (hk : k < 4) (he : e < 4) : cp_find (cp_S2 k (e + 1)) [(false, true), (true, false), (true, false), (true, false), (true, true), (true, false)] = some (10000 + (9 + k), [(4, false), (2, false)]) := cp_ck_s (A := fun k => 9 + k) (by decide +kernel) hk he
theorem cp_pA1 {k e : Nat} (hk : k < 4) (he : e < 4) : cp_find (cp_S2 k (e + 1)) [(false, true), (true, false), (false, true), (true, false), (true, true), (true, false)] = some (10000 + (6 + k), [(4, false), (1, false)]) := cp_ck_s (A := fun k => 6 + k) (by decide +kernel) hk he
theorem cp_pA1b {k e : Nat} (hk : k < 4) (he : e < 4) : cp_find (cp_S2 k (e + 1)) [(false, true), (true, true), (false, true), (true, false), (false, true), (true, false)] = some (10000 + (6), [(5, false), (1, false)]) := cp_ck_s (A := fun k => 6) (by decide +kernel) hk he
theorem cp_pA2 {k e : Nat} (hk : k < 4) (he : e < 4) : cp_find (cp_S2 k (e + 1)) [(false, true), (true, false), (false, true), (true, false), (false, true), (true, false)] = some (10000 + (6), [(5, false), (1, false)]) := cp_ck_s (A := fun k => 6) (by decide +kernel) hk he
theorem cp_pA3 {k e : Nat} (hk : k < 4) (he : e < 4) : cp_find (cp_S2 k (e + 1)) [(false, true), (true, false), (true, true), (true, false), (false, true), (true, false)] = some (10000 + (9), [(5, false), (2, false)]) := cp_ck_s (A := fun k => 9) (by decide +kernel) hk he
theorem cp_pA3b {k e : Nat} (hk : k < 4) (he : e < 4) : cp_find (cp_S2 k (e + 1)) [(false, true), (true, false), (false, true), (true, false), (false, true), (true, true)] = some (10000 + (6), [(5, false), (1, false)]) := cp_ck_s (A := fun k => 6) (by decide +kernel) hk he
theorem cp_pB {k e : Nat} (hk : k < 4) (he : e < 4) : cp_find (cp_S2 k (e + 1)) [(false, true), (true, false), (true, false), (true, false), (false, true), (true, false)] = some (10000 + (9), [(5, false), (2, false)]) := cp_ck_s (A := fun k => 9) (by decide +kernel) hk he
theorem cp_pC {k e : Nat} (hk : k < 4) (he : e < 4) : cp_find (cp_S2 k (e + 1)) [(true, true), (true, false), (true, false), (true, false), (false, true), (true, false)] = some (10000 + (9), [(5, false), (0, false)]) := cp_ck_s (A := fun k => 9) (by decide +kernel) hk he
theorem cp_pCb {k e : Nat} (hk : k < 4) (he : e < 4) : cp_find (cp_S2 k (e + 1)) [(false, true), (true, false), (true, false), (true, false), (false, true), (true, true)] = some (10000 + (9), [(5, false), (2, false)]) := cp_ck_s (A := fun k => 9) (by decide +kernel) hk he
end
section
/-! three jobs: the ways and what they cost -/
def cp_C (k b z d : Nat) : Nat := if b ≤ z then b * d + (z - b) * (d - 3) else z * d + (b - z) * (d - k)
/-- what the law asks of the ways of three jobs: first, last, costs -/
def cp_Sp (k b z : Nat) (V : List (Nat × Nat)) : Prop :=
  (cp_g (0, 0) V 0).1 = 9 + k ∧ (cp_g (0, 0) V (V.length - 1)).1 = 6 ∧ ∀ t, cp_cst V t 0 = if t < 6 then none else some (cp_C k b z (9 + k - t))
theorem cp_cst_c {W : List (Nat × Nat)} {a w t s : Nat} (hw : w < 1000000) : cp_cst ((a, w) :: W) t s = cp_cst W t (s + w * (a - t)) := by
  rw [cp_cst]
  by_cases h : a ≤ t
  · rw [if_pos h, show a - t = 0 by omega, Nat.mul_zero, Nat.add_zero]
  · rw [if_neg h, if_pos hw]
theorem cp_cst_l {t s : Nat} : cp_cst [(6, 1000000)] t s = if t < 6 then none else some s := by
  rw [cp_cst, cp_cst]
  by_cases h : t < 6
  · rw [if_pos h, if_neg (by omega), if_neg (by omega)]
  · rw [if_neg h, if_pos (by omega)]
theorem cp_ifs {t a b : Nat} (h : ¬ t < 6 → a = b) : (if t < 6 then none else some a) = if t < 6 then none else some b := by
  by_cases e : t < 6
  · rw [if_pos e, if_pos e]
  · rw [if_neg e, if_neg e, h e]
section
variable {k e x y z : Nat}
theorem cp_run2 (hk : k < 4) (he : e < 4) (hx1 : 1 ≤ x) (hx2 : x ≤ 20) (hy1 : 1 ≤ y) (hy2 : y ≤ 20) (hz1 : 1 ≤ z) (hz2 : z ≤ 20) : ∃ V, cp_run (cp_S2 k (e + 1)) [x, y, z] 149 cp_z14 = some V ∧ cp_Sp k (x + y) z V := by
  have h0 : cp_find (cp_S2 k (e + 1)) (cp_pat [x, y, z] (cp_F6 0 0 0 0 0 0) 6 0) = some (10000 + (9 + k), [(4, false), (0, false)]) := by
    rw [cp_pat3 (decide_eq_true (by omega)) (decide_eq_false (by omega)) (decide_eq_false (by omega)) (decide_eq_true (by omega)) (decide_eq_false (by omega)) (decide_eq_false (by omega)) (decide_eq_true (by omega)) (decide_eq_false (by omega)) (decide_eq_false (by omega))]
    exact cp_p0 hk he
  rcases Nat.lt_trichotomy x z with hxz | hxz | hxz
  · have hA : cp_find (cp_S2 k (e + 1)) (cp_pat [x, y, z] (cp_F6 x 0 0 0 x 0) 6 0) = some (10000 + (9 + k), [(4, false), (2, false)]) := by
      rw [cp_pat3 (decide_eq_false (by omega)) (decide_eq_true (by omega)) (decide_eq_false (by omega)) (decide_eq_true (by omega)) (decide_eq_false (by omega)) (decide_eq_false (by omega)) (decide_eq_true (by omega)) (decide_eq_true (by omega)) (decide_eq_false (by omega))]
      exact cp_pA hk he
    rcases Nat.lt_trichotomy (x + y) z with hb | hb | hb
    · refine ⟨[(9 + k, x), (9 + k, y), (6 + k, z - (x + y)), (6, 1000000)], ?_, ?_⟩
      · refine cp_r40 h0 (by omega) (by omega) (by omega) hz2 (by omega) (by omega) (g0 := x) (g4 := x) (by omega) (by omega) ?_
        refine cp_r42 hA (by omega) (by omega) (by omega) hz2 (by omega) (by omega) (g2 := y) (g4 := x + y) (by omega) (by omega) ?_
        refine cp_r41 (g1 := z - (x + y)) (g4 := z) ?_ (by omega) hz2 (by omega) (by omega) (by omega) (by omega) ?_
        · show cp_find (cp_S2 k (e + 1)) (cp_pat [x, y, z] (cp_F6 x 0 y 0 (x + y) 0) 6 0) = _
          rw [cp_pat3 (decide_eq_false (by omega)) (decide_eq_true (by omega)) (decide_eq_false (by omega)) (decide_eq_false (by omega)) (decide_eq_true (by omega)) (decide_eq_false (by omega)) (decide_eq_true (by omega)) (decide_eq_true (by omega)) (decide_eq_false (by omega))]
          exact cp_pA1 hk he
        · refine cp_r51 ?_
          show cp_find (cp_S2 k (e + 1)) (cp_pat [x, y, z] (cp_F6 x (z - (x + y)) y 0 z 0) 6 0) = _
          rw [cp_pat3 (decide_eq_false (by omega)) (decide_eq_true (by omega)) (decide_eq_true (by omega)) (decide_eq_false (by omega)) (decide_eq_true (by omega)) (decide_eq_false (by omega)) (decide_eq_false (by omega)) (decide_eq_true (by omega)) (decide_eq_false (by omega))]
          exact cp_pA1b hk he
      · refine ⟨rfl, rfl, fun t => ?_⟩
        rw [cp_cst_c (by omega), cp_cst_c (by omega), cp_cst_c (by omega), cp_cst_l]
        refine cp_ifs (fun ht => ?_)
        rw [cp_C, if_pos (by omega), show 6 + k - t = 9 + k - t - 3 by omega, Nat.zero_add, Nat.add_mul]
    · refine ⟨[(9 + k, x), (9 + k, y), (6, 1000000)], ?_, ?_⟩
      · refine cp_r40 h0 (by omega) (by omega) (by omega) hz2 (by omega) (by omega) (g0 := x) (g4 := x) (by omega) (by omega) ?_
        refine cp_r42 hA (by omega) (by omega) (by omega) hz2 (by omega) (by omega) (g2 := y) (g4 := z) (by omega) (by omega) ?_
        refine cp_r51 ?_
        show cp_find (cp_S2 k (e + 1)) (cp_pat [x, y, z] (cp_F6 x 0 y 0 z 0) 6 0) = _
        rw [cp_pat3 (decide_eq_false (by omega)) (decide_eq_true (by omega)) (decide_eq_false (by omega)) (decide_eq_false (by omega)) (decide_eq_true (by omega)) (decide_eq_false (by omega)) (decide_eq_false (by omega)) (decide_eq_true (by omega)) (decide_eq_false (by omega))]
        exact cp_pA2 hk he
      · refine ⟨rfl, rfl, fun t => ?_⟩
        rw [cp_cst_c (by omega), cp_cst_c (by omega), cp_cst_l]
        refine cp_ifs (fun ht => ?_)
        rw [cp_C, if_pos (by omega), show z - (x + y) = 0 by omega, Nat.zero_add, Nat.add_mul, Nat.zero_mul, Nat.add_zero]
    · refine ⟨[(9 + k, x), (9 + k, z - x), (9, x + y - z), (6, 1000000)], ?_, ?_⟩
      · refine cp_r40 h0 (by omega) (by omega) (by omega) hz2 (by omega) (by omega) (g0 := x) (g4 := x) (by omega) (by omega) ?_
        refine cp_r42 hA (by omega) (by omega) (by omega) hz2 (by omega) (by omega) (g2 := z - x) (g4 := z) (by omega) (by omega) ?_
        refine cp_r52 (g2 := y) (g5 := x + y - z) ?_ (by omega) hy2 (by omega) (by omega) (by omega) (by omega) ?_
        · show cp_find (cp_S2 k (e + 1)) (cp_pat [x, y, z] (cp_F6 x 0 (z - x) 0 z 0) 6 0) = _
          rw [cp_pat3 (decide_eq_false (by omega)) (decide_eq_true (by omega)) (decide_eq_false (by omega)) (decide_eq_true (by omega)) (decide_eq_true (by omega)) (decide_eq_false (by omega)) (decide_eq_false (by omega)) (decide_eq_true (by omega)) (decide_eq_false (by omega))]
          exact cp_pA3 hk he
        · refine cp_r51 ?_
          show cp_find (cp_S2 k (e + 1)) (cp_pat [x, y, z] (cp_F6 x 0 y 0 z (x + y - z)) 6 0) = _
          rw [cp_pat3 (decide_eq_false (by omega)) (decide_eq_true (by omega)) (decide_eq_false (by omega)) (decide_eq_false (by omega)) (decide_eq_true (by omega)) (decide_eq_false (by omega)) (decide_eq_false (by omega)) (decide_eq_true (by omega)) (decide_eq_true (by omega))]
          exact cp_pA3b hk he
      · refine ⟨rfl, rfl, fun t => ?_⟩
        rw [cp_cst_c (by omega), cp_cst_c (by omega), cp_cst_c (by omega), cp_cst_l]
        refine cp_ifs (fun ht => ?_)
        rw [cp_C, if_neg (by omega), show 9 - t = 9 + k - t - k by omega, Nat.zero_add, ← Nat.add_mul, show x + (z - x) = z by omega]
  · subst hxz
    refine ⟨[(9 + k, x), (9, y), (6, 1000000)], ?_, ?_⟩
    · refine cp_r40 h0 (by omega) (by omega) (by omega) hz2 (by omega) (by omega) (g0 := x) (g4 := x) (by omega) (by omega) ?_
      refine cp_r52 (g2 := y) (g5 := y) ?_ (by omega) hy2 (by omega) (by omega) (by omega) (by omega) ?_
      · show cp_find (cp_S2 k (e + 1)) (cp_pat [x, y, x] (cp_F6 x 0 0 0 x 0) 6 0) = _
        rw [cp_pat3 (decide_eq_false (by omega)) (decide_eq_true (by omega)) (decide_eq_false (by omega)) (decide_eq_true (by omega)) (decide_eq_false (by omega)) (decide_eq_false (by omega)) (decide_eq_false (by omega)) (decide_eq_true (by omega)) (decide_eq_false (by omega))]
        exact cp_pB hk he
      · refine cp_r51 ?_
        show cp_find (cp_S2 k (e + 1)) (cp_pat [x, y, x] (cp_F6 x 0 y 0 x y) 6 0) = _
        rw [cp_pat3 (decide_eq_false (by omega)) (decide_eq_true (by omega)) (decide_eq_false (by omega)) (decide_eq_false (by omega)) (decide_eq_true (by omega)) (decide_eq_false (by omega)) (decide_eq_false (by omega)) (decide_eq_true (by omega)) (decide_eq_true (by omega))]
        exact cp_pA3b hk he
    · refine ⟨rfl, rfl, fun t => ?_⟩
      rw [cp_cst_c (by omega), cp_cst_c (by omega), cp_cst_l]
      refine cp_ifs (fun ht => ?_)
      rw [cp_C, if_neg (by omega), show 9 - t = 9 + k - t - k by omega, Nat.zero_add, show x + y - x = y by omega]
  · refine ⟨[(9 + k, z), (9, x - z), (9, y), (6, 1000000)], ?_, ?_⟩
    · refine cp_r40 h0 (by omega) (by omega) (by omega) hz2 (by omega) (by omega) (g0 := z) (g4 := z) (by omega) (by omega) ?_
      refine cp_r50 (g0 := x) (g5 := x - z) ?_ (by omega) hx2 (by omega) (by omega) (by omega) (by omega) ?_
      · show cp_find (cp_S2 k (e + 1)) (cp_pat [x, y, z] (cp_F6 z 0 0 0 z 0) 6 0) = _
        rw [cp_pat3 (decide_eq_true (by omega)) (decide_eq_true (by omega)) (decide_eq_false (by omega)) (decide_eq_true (by omega)) (decide_eq_false (by omega)) (decide_eq_false (by omega)) (decide_eq_false (by omega)) (decide_eq_true (by omega)) (decide_eq_false (by omega))]
        exact cp_pC hk he
      · refine cp_r52 (g2 := y) (g5 := x - z + y) ?_ (by omega) hy2 (by omega) (by omega) (by omega) (by omega) ?_
        · show cp_find (cp_S2 k (e + 1)) (cp_pat [x, y, z] (cp_F6 x 0 0 0 z (x - z)) 6 0) = _
          rw [cp_pat3 (decide_eq_false (by omega)) (decide_eq_true (by omega)) (decide_eq_false (by omega)) (decide_eq_true (by omega)) (decide_eq_false (by omega)) (decide_eq_false (by omega)) (decide_eq_false (by omega)) (decide_eq_true (by omega)) (decide_eq_true (by omega))]
          exact cp_pCb hk he
        · refine cp_r51 ?_
          show cp_find (cp_S2 k (e + 1)) (cp_pat [x, y, z] (cp_F6 x 0 y 0 z (x - z + y)) 6 0) = _
          rw [cp_pat3 (decide_eq_false (by omega)) (decide_eq_true (by omega)) (decide_eq_false (by omega)) (decide_eq_false (by omega)) (decide_eq_true (by omega)) (decide_eq_false (by omega)) (decide_eq_false (by omega)) (decide_eq_true (by omega)) (decide_eq_true (by omega))]
          exact cp_pA3b hk he
    · refine ⟨rfl, rfl, fun t => ?_⟩
      rw [cp_cst_c (by omega), cp_cst_c (by omega), cp_cst_c (by omega), cp_cst_l]
      refine cp_ifs (fun ht => ?_)
      rw [cp_C, if_neg (by omega), show 9 - t = 9 + k - t - k by omega, Nat.zero_add, Nat.add_assoc, ← Nat.add_mul, show x - z + y = x + y - z by omega]
end
end
section
/-! four jobs, seven jobs: the kernel runs them -/
def cp_S4 (k e : Nat) : List cp_Sh := [(0, e, 5, 2), (0, e, 5, 2), (e, 5, 4 + k, 4), (0, 5, 9, 6)]
def cp_ck4 (k e y : Nat) : Bool := match cp_run (cp_S4 k (e + 1)) [1, y + 1, 20, 3] 149 cp_z14 with
  | none => false
  | some V => Nat.beq (cp_g (0, 0) V 0).1 (9 + k) && Nat.beq (cp_g (0, 0) V (V.length - 1)).1 6
theorem cp_ck4_all : ((List.range 4).all fun k => (List.range 4).all fun e => (List.range 20).all fun y => cp_ck4 k e y) = true := by decide +kernel
theorem cp_run4 {k e y : Nat} (hk : k < 4) (he : e < 4) (hy1 : 1 ≤ y) (hy2 : y ≤ 20) : ∃ V, cp_run (cp_S4 k (e + 1)) [1, y, 20, 3] 149 cp_z14 = some V ∧ (cp_g (0, 0) V 0).1 = 9 + k ∧ (cp_g (0, 0) V (V.length - 1)).1 = 6 := by
  have h : cp_ck4 k e (y - 1) = true := cp_all (cp_all (cp_all cp_ck4_all hk) he) (show y - 1 < 20 by omega)
  unfold cp_ck4 at h
  rw [show y - 1 + 1 = y by omega] at h
  cases e1 : cp_run (cp_S4 k (e + 1)) [1, y, 20, 3] 149 cp_z14 with
  | none => rw [e1] at h; exact Bool.noConfusion h
  | some V =>
    rw [e1] at h
    dsimp only at h
    rw [Bool.and_eq_true] at h
    exact ⟨V, rfl, Nat.eq_of_beq_eq_true h.1, Nat.eq_of_beq_eq_true h.2⟩
end
section
/-- seven jobs: after a drop (or none) the planner is filled up -/
def cp_S7 (k e i : Nat) : List cp_Sh := cp_e (cp_S4 k e) i ++ [(1, 2, 9, 9)] ++ [(1, 2, 9, 9)] ++ [(1, 2, 9, 9)] ++ [(1, 2, 9, 9)]
def cp_P7 (y i : Nat) : List Nat := cp_e [1, y, 20, 3] i ++ [20] ++ [20] ++ [20] ++ [20]
def cp_S7n (k e : Nat) : List cp_Sh := cp_S4 k e ++ [(1, 2, 9, 9)] ++ [(1, 2, 9, 9)] ++ [(1, 2, 9, 9)]
def cp_P7n (y : Nat) : List Nat := [1, y, 20, 3] ++ [20] ++ [20] ++ [20]
def cp_ck7 (o : Option (List (Nat × Nat))) : Bool := match o with
  | none => false
  | some V => match cp_cst V 60 0 with
    | none => false
    | some c => Nat.beq c 0
theorem cp_ck7_s {o : Option (List (Nat × Nat))} (h : cp_ck7 o = true) : ∃ V, o = some V ∧ cp_cst V 60 0 = some 0 := by
  cases o with
  | none => exact Bool.noConfusion h
  | some V =>
    refine ⟨V, rfl, ?_⟩
    unfold cp_ck7 at h
    dsimp only at h
    cases e : cp_cst V 60 0 with
    | none => rw [e] at h; exact Bool.noConfusion h
    | some c =>
      rw [e] at h
      dsimp only at h
      rw [Nat.eq_of_beq_eq_true h]
theorem cp_ck7_n : ((List.range 4).all fun k => (List.range 4).all fun e => (List.range 20).all fun y => cp_ck7 (cp_run (cp_S7n k (e + 1)) (cp_P7n (y + 1)) 149 cp_z14)) = true := by decide +kernel
theorem cp_ck7_0 : ((List.range 4).all fun k => (List.range 4).all fun e => (List.range 20).all fun y => cp_ck7 (cp_run (cp_S7 k (e + 1) 0) (cp_P7 (y + 1) 0) 149 cp_z14)) = true := by decide +kernel
theorem cp_ck7_1 : ((List.range 4).all fun k => (List.range 4).all fun e => (List.range 20).all fun y => cp_ck7 (cp_run (cp_S7 k (e + 1) 1) (cp_P7 (y + 1) 1) 149 cp_z14)) = true := by decide +kernel
theorem cp_ck7_2 : ((List.range 4).all fun k => (List.range 4).all fun e => (List.range 20).all fun y => cp_ck7 (cp_run (cp_S7 k (e + 1) 2) (cp_P7 (y + 1) 2) 149 cp_z14)) = true := by decide +kernel
theorem cp_ck7_3 : ((List.range 4).all fun k => (List.range 4).all fun e => (List.range 20).all fun y => cp_ck7 (cp_run (cp_S7 k (e + 1) 3) (cp_P7 (y + 1) 3) 149 cp_z14)) = true := by decide +kernel
theorem cp_run7n {k e y : Nat} (hk : k < 4) (he : e < 4) (hy1 : 1 ≤ y) (hy2 : y ≤ 20) : ∃ V, cp_run (cp_S7n k (e + 1)) (cp_P7n y) 149 cp_z14 = some V ∧ cp_cst V 60 0 = some 0 := by
  have h := cp_all (cp_all (cp_all cp_ck7_n hk) he) (show y - 1 < 20 by omega)
  rw [show y - 1 + 1 = y by omega] at h
  exact cp_ck7_s h
theorem cp_run7 {k e y i : Nat} (hk : k < 4) (he : e < 4) (hy1 : 1 ≤ y) (hy2 : y ≤ 20) (hi : i < 4) : ∃ V, cp_run (cp_S7 k (e + 1) i) (cp_P7 y i) 149 cp_z14 = some V ∧ cp_cst V 60 0 = some 0 := by
  have q : i = 0 ∨ i = 1 ∨ i = 2 ∨ i = 3 := by omega
  rcases q with q | q | q | q <;> subst q
  · have h := cp_all (cp_all (cp_all cp_ck7_0 hk) he) (show y - 1 < 20 by omega)
    rw [show y - 1 + 1 = y by omega] at h
    exact cp_ck7_s h
  · have h := cp_all (cp_all (cp_all cp_ck7_1 hk) he) (show y - 1 < 20 by omega)
    rw [show y - 1 + 1 = y by omega] at h
    exact cp_ck7_s h
  · have h := cp_all (cp_all (cp_all cp_ck7_2 hk) he) (show y - 1 < 20 by omega)
    rw [show y - 1 + 1 = y by omega] at h
    exact cp_ck7_s h
  · have h := cp_all (cp_all (cp_all cp_ck7_3 hk) he) (show y - 1 < 20 by omega)
    rw [show y - 1 + 1 = y by omega] at h
    exact cp_ck7_s h
end
section
/-! the law's arithmetic -/
def cp_mn (k b z d : Nat) : Nat → Nat
  | 0 => 1000000
  | u + 1 => if u ≤ d ∧ d - u ≤ k then (if u * b + (d - u) * z ≤ cp_mn k b z d u then u * b + (d - u) * z else cp_mn k b z d u) else cp_mn k b z d u
theorem cp_mn_p {k b z d : Nat} : ∀ n, cp_mn k b z d n ≤ 1000000 ∧ (∀ u, u < n → u ≤ d → d - u ≤ k → cp_mn k b z d n ≤ u * b + (d - u) * z) ∧ (cp_mn k b z d n = 1000000 ∨ ∃ u, u < n ∧ u ≤ d ∧ d - u ≤ k ∧ cp_mn k b z d n = u * b + (d - u) * z) := by
  intro n
  induction n with
  | zero => exact ⟨Nat.le_refl _, fun u hu => absurd hu (by omega), Or.inl rfl⟩
  | succ n ih =>
    obtain ⟨h1, h2, h3⟩ := ih
    rw [cp_mn]
    by_cases hc : n ≤ d ∧ d - n ≤ k
    · rw [if_pos hc]
      by_cases hl : n * b + (d - n) * z ≤ cp_mn k b z d n
      · rw [if_pos hl]
        refine ⟨by omega, lt_s (fun u hu q1 q2 => Nat.le_trans hl (h2 u hu q1 q2)) (fun _ _ => Nat.le_refl _), Or.inr ⟨n, by omega, hc.1, hc.2, rfl⟩⟩
      · rw [if_neg hl]
        refine ⟨h1, lt_s h2 (fun _ _ => by omega), ?_⟩
        rcases h3 with h3 | ⟨u, q1, q2⟩
        · exact Or.inl h3
        · exact Or.inr ⟨u, by omega, q2⟩
    · rw [if_neg hc]
      refine ⟨h1, lt_s h2 (fun q1 q2 => absurd ⟨q1, q2⟩ hc), ?_⟩
      rcases h3 with h3 | ⟨u, q1, q2⟩
      · exact Or.inl h3
      · exact Or.inr ⟨u, by omega, q2⟩
theorem cp_mnC {k b z d : Nat} (hk : k < 4) (hd : d ≤ 3 + k) (hb : b ≤ 40) (hz : z ≤ 20) : cp_mn k b z d 4 = cp_C k b z d := by
  obtain ⟨h1, h2, h3⟩ := cp_mn_p (k := k) (b := b) (z := z) (d := d) 4
  generalize cp_mn k b z d 4 = M at *
  have m0 := h2 0 (by omega)
  have m1 := h2 1 (by omega)
  have m2 := h2 2 (by omega)
  have m3 := h2 3 (by omega)
  clear h2
  have h4 : M = 1000000 ∨ (0 ≤ d ∧ d - 0 ≤ k ∧ M = 0 * b + (d - 0) * z) ∨ (1 ≤ d ∧ d - 1 ≤ k ∧ M = 1 * b + (d - 1) * z) ∨ (2 ≤ d ∧ d - 2 ≤ k ∧ M = 2 * b + (d - 2) * z) ∨ (3 ≤ d ∧ d - 3 ≤ k ∧ M = 3 * b + (d - 3) * z) := by
    rcases h3 with h3 | ⟨u, q1, q2⟩
    · exact Or.inl h3
    · have qu : u = 0 ∨ u = 1 ∨ u = 2 ∨ u = 3 := by omega
      rcases qu with qu | qu | qu | qu <;> subst qu
      · exact Or.inr (Or.inl q2)
      · exact Or.inr (Or.inr (Or.inl q2))
      · exact Or.inr (Or.inr (Or.inr (Or.inl q2)))
      · exact Or.inr (Or.inr (Or.inr (Or.inr q2)))
  clear h3
  have q : k = 0 ∨ k = 1 ∨ k = 2 ∨ k = 3 := by omega
  have r : d = 0 ∨ d = 1 ∨ d = 2 ∨ d = 3 ∨ d = 4 ∨ d = 5 ∨ d = 6 := by omega
  unfold cp_C
  by_cases hbz : b ≤ z
  · rw [if_pos hbz]
    rcases q with q | q | q | q <;> subst q <;> rcases r with r | r | r | r | r | r | r <;> subst r <;> omega
  · rw [if_neg hbz]
    rcases q with q | q | q | q <;> subst q <;> rcases r with r | r | r | r | r | r | r <;> subst r <;> omega
theorem cp_C0 {k b z : Nat} : cp_C k b z 0 = 0 := by
  unfold cp_C
  split <;> simp
theorem cp_C_le {k b z d : Nat} (hk : k < 4) (hd : d ≤ 3 + k) (hb : b ≤ 40) (hz : z ≤ 20) : cp_C k b z d ≤ 400 := by
  have r : d = 0 ∨ d = 1 ∨ d = 2 ∨ d = 3 ∨ d = 4 ∨ d = 5 ∨ d = 6 := by omega
  have q : k = 0 ∨ k = 1 ∨ k = 2 ∨ k = 3 := by omega
  unfold cp_C
  by_cases hbz : b ≤ z
  · rw [if_pos hbz]
    rcases q with q | q | q | q <;> subst q <;> rcases r with r | r | r | r | r | r | r <;> subst r <;> omega
  · rw [if_neg hbz]
    rcases q with q | q | q | q <;> subst q <;> rcases r with r | r | r | r | r | r | r <;> subst r <;> omega
/-- the cheapest day: b, or z if that part can be shortened -/
theorem cp_C1 {k b z : Nat} (hk : k < 4) : cp_C k b z 1 = if k = 0 then b else if z ≤ b then z else b := by
  unfold cp_C
  by_cases h0 : k = 0
  · rw [if_pos h0]
    subst h0
    split <;> omega
  · rw [if_neg h0, show 1 - k = 0 by omega, show 1 - 3 = 0 by omega]
    by_cases hbz : b ≤ z
    · rw [if_pos hbz]
      split <;> omega
    · rw [if_neg hbz, if_pos (by omega)]
      omega
/-- the law's total behind i turns -/
def cp_Tt (k b z q i T : Nat) : Prop := T ≤ 1000000 ∧ (∀ j, j < i → T ≤ cp_C k b z j + q * (9 + k - j)) ∧ (T = 1000000 ∨ ∃ j, j < i ∧ T = cp_C k b z j + q * (9 + k - j))
theorem cp_Tt_k {k b z q i T : Nat} (h : cp_Tt k b z q i T) (hle : T ≤ cp_C k b z i + q * (9 + k - i)) : cp_Tt k b z q (i + 1) T := by
  obtain ⟨h1, h2, h3⟩ := h
  refine ⟨h1, lt_s h2 hle, ?_⟩
  rcases h3 with h3 | ⟨j, h3, h4⟩
  · exact Or.inl h3
  · exact Or.inr ⟨j, by omega, h4⟩
theorem cp_Tt_n {k b z q i T : Nat} (h : cp_Tt k b z q i T) (hle : cp_C k b z i + q * (9 + k - i) ≤ T) : cp_Tt k b z q (i + 1) (cp_C k b z i + q * (9 + k - i)) := by
  obtain ⟨h1, h2, h3⟩ := h
  refine ⟨by omega, lt_s (fun j hj => ?_) (Nat.le_refl _), Or.inr ⟨i, by omega, rfl⟩⟩
  have := h2 j hj
  omega
/-- the law's within behind i turns -/
def cp_Ww (k b z i : Nat) (x4 w : Int32) : Prop := ∀ β, β < 2 ^ 31 → x4 = nI β → i = 0 ∨ ∃ j, j < i ∧ w = nI (9 + k - j) ∧ cp_C k b z j ≤ β ∧ ∀ j', j < j' → j' < i → β < cp_C k b z j'
theorem cp_Ww_n {k b z i : Nat} {x4 w : Int32} (hC : cp_C k b z i < 2 ^ 31) (h : ¬ x4 < nI (cp_C k b z i)) : cp_Ww k b z (i + 1) x4 (nI (9 + k - i)) := by
  intro β hβ e
  rw [e, nI_ltI hβ hC] at h
  exact Or.inr ⟨i, by omega, rfl, by omega, fun j' h1 h2 => absurd h1 (by omega)⟩
theorem cp_Ww_k {k b z i : Nat} {x4 w : Int32} (hC : cp_C k b z i < 2 ^ 31) (hw : cp_Ww k b z i x4 w) (h : x4 < nI (cp_C k b z i)) : cp_Ww k b z (i + 1) x4 w := by
  intro β hβ e
  rw [e, nI_ltI hβ hC] at h
  rcases hw β hβ e with h0 | ⟨j, h1, h2, h3, h4⟩
  · rw [h0, cp_C0] at h
    exact absurd h (by omega)
  · refine Or.inr ⟨j, by omega, h2, h3, fun j' k1 k2 => ?_⟩
    by_cases e2 : j' = i
    · rw [e2]; exact h
    · exact h4 j' k1 (by omega)
section
variable {k b z q T : Nat} {V : List (Nat × Nat)}
theorem cp_Sp_some {t c : Nat} (hV : cp_Sp k b z V) (h : cp_cst V t 0 = some c) : 6 ≤ t ∧ c = cp_C k b z (9 + k - t) := by
  have e := hV.2.2 t
  rw [h] at e
  by_cases h6 : t < 6
  · rw [if_pos h6] at e
    exact absurd e (by simp)
  · rw [if_neg h6] at e
    exact ⟨by omega, Option.some.inj e⟩
theorem cp_Sp_at {t : Nat} (hV : cp_Sp k b z V) (h : 6 ≤ t) : cp_cst V t 0 = some (cp_C k b z (9 + k - t)) := by
  rw [hV.2.2 t, if_neg (by omega)]
theorem cp_Sp_none {t : Nat} (hV : cp_Sp k b z V) (h : t < 6) : cp_cst V t 0 = none := by
  rw [hV.2.2 t, if_pos h]
/-- the law's total is the planner's -/
theorem cp_tot_b (hk : k < 4) (hb : b ≤ 40) (hz : z ≤ 20) (hq : q < 128) (hV : cp_Sp k b z V) : ∀ t, t ≤ 45 → ∀ c, cp_cst V t 0 = some c → c + q * t < 2 ^ 30 := by
  intro t ht c hc
  obtain ⟨h6, e⟩ := cp_Sp_some hV hc
  have h1 := cp_C_le (b := b) (z := z) (d := 9 + k - t) hk (by omega) hb hz
  have h2 : q * t ≤ 127 * 45 := Nat.mul_le_mul (by omega) ht
  omega
theorem cp_tot_ex (hk : k < 4) (hb : b ≤ 40) (hz : z ≤ 20) (hq : q < 128) (hV : cp_Sp k b z V) (hT : cp_Tt k b z q (4 + k) T) : ∃ t, t ≤ 45 ∧ ∃ c, cp_cst V t 0 = some c ∧ T = c + q * t := by
  obtain ⟨h1, h2, h3⟩ := hT
  rcases h3 with h3 | ⟨j, h3, h4⟩
  · have k1 := h2 0 (by omega)
    rw [cp_C0] at k1
    have k2 : q * (9 + k - 0) ≤ 127 * 12 := Nat.mul_le_mul (by omega) (by omega)
    omega
  · refine ⟨9 + k - j, by omega, _, cp_Sp_at hV (by omega), ?_⟩
    rw [show 9 + k - (9 + k - j) = j by omega]
    exact h4
theorem cp_tot_min (hk : k < 4) (hV : cp_Sp k b z V) (hT : cp_Tt k b z q (4 + k) T) : ∀ t, t ≤ 45 → ∀ c, cp_cst V t 0 = some c → T ≤ c + q * t := by
  intro t ht c hc
  obtain ⟨h6, e⟩ := cp_Sp_some hV hc
  by_cases h9 : t ≤ 9 + k
  · have h := hT.2.1 (9 + k - t) (by omega)
    rw [show 9 + k - (9 + k - t) = t by omega] at h
    rw [e]
    exact h
  · have h := hT.2.1 0 (by omega)
    rw [cp_C0] at h
    have h2 : q * (9 + k - 0) ≤ q * t := Nat.mul_le_mul (Nat.le_refl _) (by omega)
    omega
/-- the law's within is the planner's -/
theorem cp_wit {β : Nat} {x4 w : Int32} (hk : k < 4) (hb : b ≤ 40) (hz : z ≤ 20) (hV : cp_Sp k b z V) (hβ : β < 2 ^ 31) (e : x4 = nI β) (hw : cp_Ww k b z (4 + k) x4 w) :
    ∃ t0, t0 ≤ 45 ∧ w = nI t0 ∧ (∀ t, t < t0 → ∀ c, cp_cst V t 0 = some c → β < c ∧ c < 2 ^ 31) ∧ ∃ c, cp_cst V t0 0 = some c ∧ c ≤ β := by
  rcases hw β hβ e with h0 | ⟨j, h1, h2, h3, h4⟩
  · omega
  · refine ⟨9 + k - j, by omega, h2, fun t ht c hc => ?_, _, cp_Sp_at hV (by omega), ?_⟩
    · obtain ⟨h6, ec⟩ := cp_Sp_some hV hc
      have k1 := h4 (9 + k - t) (by omega) (by omega)
      have k2 := cp_C_le (b := b) (z := z) (d := 9 + k - t) hk (by omega) hb hz
      omega
    · rw [show 9 + k - (9 + k - j) = j by omega]
      exact h3
end
end
section
/-! the law's walk, from its end -/
theorem cp_big {x3 : Int32} (h : nI 4 ≤ x3) : ¬ x3 < 0 ∧ 3 < x3 := by
  rw [Int32.le_iff_toInt_le, nI_toInt (by omega)] at h
  have h0 : (0 : Int32).toInt = 0 := by decide
  have h3 : (3 : Int32).toInt = 3 := by decide
  rw [Int32.lt_iff_toInt_lt, Int32.lt_iff_toInt_lt]
  omega
section
variable {f0 f1 f2 : Int32} {a1 a2 a3 a4 a5 a6 a7 a8 a9 a10 a11 : Nat → Int32} {S : List cp_Sh} {p : List Nat} {V : List (Nat × Nat)} {post : Int32 → St0 → Prop} {mc ms kc ks k e x y z q : Nat}
theorem cp_675e {n : Nat} (hp : post 1 ()) (hQ : cp_Q S p V (f0, f1, f2, a1, a2, a3, a4, a5, a6, a7, a8, a9, a10, a11)) (h7 : S.length = 7) (hr : cp_run S p 149 cp_z14 = some V) (hc : cp_cst V 60 0 = some 0) : wL_lawOf_675 post mc ms kc ks (n + 1) (nI 7) f0 f1 f2 a1 a2 a3 a4 a5 a6 a7 a8 a9 a10 a11 := by
  refine pk_le 7 7 (fun _ => ?_) (fun z => absurd z (by omega))
  refine cp_add_full (a := 0) (b := 1) (s := 1) (f := 1) (x := 1) hQ h7 (by omega) (by omega) (by omega) (by omega) (by omega) (br_t rfl ?_)
  refine cp_drop_n hQ (Or.inr (by rw [h7]; decide)) (br_t rfl ?_)
  refine cp_price_n (i := 7) (x := 1) hQ (by omega) (by omega) (Or.inl (by omega)) (br_t rfl ?_)
  refine cp_cost (t := 60) hQ hr (by omega) (fun u' hu' => ?_)
  obtain ⟨g0, g1, g2, b1, b2, b3, b4, b5, b6, b7, b8, b9, b10, b11⟩ := u'
  rw [hc]
  exact br_t rfl hp
theorem cp_675s {n i : Nat} (V' : List (Nat × Nat)) (hQ : cp_Q S p V (f0, f1, f2, a1, a2, a3, a4, a5, a6, a7, a8, a9, a10, a11)) (hi : S.length = i) (h7 : i < 7)
    (H : ∀ g0 g1 g2 b1 b2 b3 b4 b5 b6 b7 b8 b9 b10 b11, cp_Q (S ++ [(1, 2, 9, 9)]) (p ++ [20]) V' (g0, g1, g2, b1, b2, b3, b4, b5, b6, b7, b8, b9, b10, b11) → wL_lawOf_675 post mc ms kc ks n (nI (i + 1)) g0 g1 g2 b1 b2 b3 b4 b5 b6 b7 b8 b9 b10 b11) : wL_lawOf_675 post mc ms kc ks (n + 1) (nI i) f0 f1 f2 a1 a2 a3 a4 a5 a6 a7 a8 a9 a10 a11 := by
  refine pk_le 7 i (fun z => absurd z (by omega)) (fun _ => ?_)
  refine cp_add (a := 1) (b := 2) (s := 9) (f := 9) (x := 20) V' hQ (by omega) (by omega) (by omega) (by omega) (by omega) (by omega) (by omega) (by omega) (fun u' hu' => ?_)
  obtain ⟨g0, g1, g2, b1, b2, b3, b4, b5, b6, b7, b8, b9, b10, b11⟩ := u'
  rw [hi]
  exact br_t (nI_1 i).symm (nm_r (nI_1 i) (H g0 g1 g2 b1 b2 b3 b4 b5 b6 b7 b8 b9 b10 b11 hu'))
theorem cp_fill4 (hp : post 1 ()) (hk : k < 4) (he : e < 4) (hy1 : 1 ≤ y) (hy2 : y ≤ 20) (hQ : cp_Q (cp_S4 k (e + 1)) [1, y, 20, 3] V (f0, f1, f2, a1, a2, a3, a4, a5, a6, a7, a8, a9, a10, a11)) : ∃ n, wL_lawOf_675 post mc ms kc ks n 4 f0 f1 f2 a1 a2 a3 a4 a5 a6 a7 a8 a9 a10 a11 := by
  obtain ⟨V7, hr, hc⟩ := cp_run7n hk he hy1 hy2
  refine ⟨4, cp_675s (i := 4) [] hQ rfl (by omega) (fun g0 g1 g2 b1 b2 b3 b4 b5 b6 b7 b8 b9 b10 b11 h1 => ?_)⟩
  refine cp_675s (i := 5) [] h1 rfl (by omega) (fun g0 g1 g2 b1 b2 b3 b4 b5 b6 b7 b8 b9 b10 b11 h2 => ?_)
  refine cp_675s (i := 6) V7 h2 rfl (by omega) (fun g0 g1 g2 b1 b2 b3 b4 b5 b6 b7 b8 b9 b10 b11 h3 => ?_)
  exact cp_675e hp h3 rfl hr hc
theorem cp_fill3 {i : Nat} (hp : post 1 ()) (hk : k < 4) (he : e < 4) (hy1 : 1 ≤ y) (hy2 : y ≤ 20) (hi : i < 4) (hQ : cp_Q (cp_e (cp_S4 k (e + 1)) i) (cp_e [1, y, 20, 3] i) V (f0, f1, f2, a1, a2, a3, a4, a5, a6, a7, a8, a9, a10, a11)) : ∃ n, wL_lawOf_675 post mc ms kc ks n 3 f0 f1 f2 a1 a2 a3 a4 a5 a6 a7 a8 a9 a10 a11 := by
  obtain ⟨V7, hr, hc⟩ := cp_run7 hk he hy1 hy2 hi
  have l3 : (cp_e (cp_S4 k (e + 1)) i).length = 3 := by
    have l := cp_len_e (cp_S4 k (e + 1)) i hi
    have l4 : (cp_S4 k (e + 1)).length = 4 := rfl
    omega
  refine ⟨5, cp_675s (i := 3) [] hQ l3 (by omega) (fun g0 g1 g2 b1 b2 b3 b4 b5 b6 b7 b8 b9 b10 b11 h1 => ?_)⟩
  have l4 : (cp_e (cp_S4 k (e + 1)) i ++ [(1, 2, 9, 9)]).length = 4 := by rw [List.length_append, l3]; rfl
  refine cp_675s (i := 4) [] h1 l4 (by omega) (fun g0 g1 g2 b1 b2 b3 b4 b5 b6 b7 b8 b9 b10 b11 h2 => ?_)
  have l5 : (cp_e (cp_S4 k (e + 1)) i ++ [(1, 2, 9, 9)] ++ [(1, 2, 9, 9)]).length = 5 := by rw [List.length_append, l4]; rfl
  refine cp_675s (i := 5) [] h2 l5 (by omega) (fun g0 g1 g2 b1 b2 b3 b4 b5 b6 b7 b8 b9 b10 b11 h3 => ?_)
  have l6 : (cp_e (cp_S4 k (e + 1)) i ++ [(1, 2, 9, 9)] ++ [(1, 2, 9, 9)] ++ [(1, 2, 9, 9)]).length = 6 := by rw [List.length_append, l5]; rfl
  refine cp_675s (i := 6) V7 h3 l6 (by omega) (fun g0 g1 g2 b1 b2 b3 b4 b5 b6 b7 b8 b9 b10 b11 h4 => ?_)
  exact cp_675e hp h4 (by rw [List.length_append, l6]; rfl) hr hc
theorem cp_625 {x3 z0 z1 : Int32} (hp : post 1 ()) (hk : k < 4) (he : e < 4) (hy1 : 1 ≤ y) (hy2 : y ≤ 20) (hQ : cp_Q (cp_S4 k (e + 1)) [1, y, 20, 3] V (f0, f1, f2, a1, a2, a3, a4, a5, a6, a7, a8, a9, a10, a11)) (hz : z1 = z0) : wL_lawOf_625 post mc ms x3 z0 z1 kc ks f0 f1 f2 a1 a2 a3 a4 a5 a6 a7 a8 a9 a10 a11 := by
  unfold wL_lawOf_625
  refine br_t hz ?_
  rcases pk_ix x3 (n := 4) (by omega) with h | h | ⟨j, hj, rfl⟩
  · refine cp_drop_n hQ (Or.inl h) (br_t h ?_)
    unfold wL_lawOf_649 wL_lawOf_650
    exact br_t rfl (br_t h (cp_fill4 hp hk he hy1 hy2 hQ))
  · obtain ⟨h0, h3⟩ := cp_big h
    refine cp_drop_n hQ (Or.inr ?_) (br_f h0 (br_t h3 ?_))
    · rw [Int32.not_lt]
      exact h
    · unfold wL_lawOf_649 wL_lawOf_650
      exact br_t rfl (br_f h0 (br_t h3 (cp_fill4 hp hk he hy1 hy2 hQ)))
  · refine cp_drop [] hQ hj (fun u' hu' => ?_)
    obtain ⟨g0, g1, g2, b1, b2, b3, b4, b5, b6, b7, b8, b9, b10, b11⟩ := u'
    have h0 : ¬ nI j < 0 := nI_pos (by omega)
    have h3 : ¬ 3 < nI j := nI_nlt (b := j) (a := 3) (by omega) (by omega)
    refine br_f h0 (br_f h3 ?_)
    unfold wL_lawOf_650
    exact br_t rfl (br_f h0 (br_f h3 (cp_fill3 hp hk he hy1 hy2 hj hu')))
theorem cp_577 {x3 z0 z1 : Int32} (hp : post 1 ()) (hk : k < 4) (he : e < 4) (hy1 : 1 ≤ y) (hy2 : y ≤ 20) (hQ : cp_Q (cp_S2 k (e + 1)) [1, y, 20] V (f0, f1, f2, a1, a2, a3, a4, a5, a6, a7, a8, a9, a10, a11)) (hz : z1 = z0) : wL_lawOf_577 post mc ms x3 (nI k) (nI (9 + k)) z0 z1 kc ks f0 f1 f2 a1 a2 a3 a4 a5 a6 a7 a8 a9 a10 a11 := by
  obtain ⟨V4, hr, hfst, hlst⟩ := cp_run4 hk he hy1 hy2
  unfold wL_lawOf_577
  refine br_t hz ?_
  refine cp_add (a := 0) (b := 5) (s := 9) (f := 6) (x := 3) V4 hQ (by show 3 < 7; omega) (by omega) (by omega) (by omega) (by omega) (by omega) (by omega) (by omega) (fun u' hu' => ?_)
  obtain ⟨g0, g1, g2, b1, b2, b3, b4, b5, b6, b7, b8, b9, b10, b11⟩ := u'
  refine br_t rfl ?_
  have h1 : cp_Q (cp_S4 k (e + 1)) [1, y, 20, 3] V4 (g0, g1, g2, b1, b2, b3, b4, b5, b6, b7, b8, b9, b10, b11) := hu'
  refine cp_fastest h1 hr (fun u' hu' => ?_)
  obtain ⟨g0, g1, g2, b1, b2, b3, b4, b5, b6, b7, b8, b9, b10, b11⟩ := u'
  rw [hlst]
  refine br_t rfl ?_
  refine cp_slowest hu' hr (fun u' hu' => ?_)
  obtain ⟨g0, g1, g2, b1, b2, b3, b4, b5, b6, b7, b8, b9, b10, b11⟩ := u'
  rw [hfst]
  refine pk_le k 0 (fun h => cp_625 hp hk he hy1 hy2 hu' ?_) (fun h => cp_625 hp hk he hy1 hy2 hu' rfl)
  rw [show k = 0 by omega]
  rfl
theorem cp_sp1 {b : Nat} (hV : cp_Sp k b z V) (hk : k < 4) : cp_sp V (8 + k) = nI (cp_C k b z 1) := by
  unfold cp_sp
  rw [cp_Sp_at hV (by omega), cp_Sp_at hV (by omega), show 9 + k - (8 + k) = 1 by omega, show 9 + k - (8 + k + 1) = 0 by omega, cp_C0]
  dsimp only
  rw [if_pos (by omega)]
  show nI (cp_C k b z 1) - nI 0 = _
  rw [pk_sub (by omega), Nat.sub_zero]
theorem cp_sp0 {b : Nat} (hV : cp_Sp k b z V) (hk : k < 4) : cp_sp V (9 + k) = 0 := by
  unfold cp_sp
  rw [cp_Sp_at hV (by omega), cp_Sp_at hV (by omega), show 9 + k - (9 + k) = 0 by omega, show 9 + k - (9 + k + 1) = 0 by omega, cp_C0]
  dsimp only
  rw [if_pos (by omega)]
  rfl
theorem cp_spM {b : Nat} (hV : cp_Sp k b z V) (hk : k < 4) : cp_sp V 2147483647 = 0 := by
  unfold cp_sp
  rw [cp_Sp_at hV (by omega)]
  dsimp only
  rw [if_neg (by omega)]
theorem cp_Sp_b {b t : Nat} (hV : cp_Sp k b z V) (hk : k < 4) (hb : b ≤ 40) (hz : z ≤ 20) : ∀ c, cp_cst V t 0 = some c → c < 2 ^ 31 := by
  intro c hc
  obtain ⟨h6, ec⟩ := cp_Sp_some hV hc
  have := cp_C_le (b := b) (z := z) (d := 9 + k - t) hk (by omega) hb hz
  omega
theorem cp_462 {x3 z0 : Int32} (hp : post 1 ()) (hk : k < 4) (he : e < 4) (hx1 : 1 ≤ x) (hx2 : x ≤ 20) (hy1 : 1 ≤ y) (hy2 : y ≤ 20) (hz1 : 1 ≤ z) (hz2 : z ≤ 20) (hQ : cp_Q (cp_S2 k (e + 1)) [x, y, z] V (f0, f1, f2, a1, a2, a3, a4, a5, a6, a7, a8, a9, a10, a11)) (hr : cp_run (cp_S2 k (e + 1)) [x, y, z] 149 cp_z14 = some V) (hV : cp_Sp k (x + y) z V) (hz0 : z0 = nI (cp_C k (x + y) z 1)) :
    wL_lawOf_462 post mc ms x3 (nI k) (nI x) (nI y) (nI z) (nI (9 + k)) z0 kc ks f0 f1 f2 a1 a2 a3 a4 a5 a6 a7 a8 a9 a10 a11 := by
  obtain ⟨V3, hr3, hV3⟩ := cp_run2 (x := 1) (y := y) (z := 20) hk he (by omega) (by omega) hy1 hy2 (by omega) (by omega)
  have e8 : nI (9 + k) - 1 = nI (8 + k) := (pk_sub (a := 9 + k) (b := 1) (by omega)).trans (by rw [show 9 + k - 1 = 8 + k by omega])
  have e0 : cp_cst V 2147483647 0 = some 0 := by
    rw [cp_Sp_at hV (by omega), show 9 + k - 2147483647 = 0 by omega, cp_C0]
  unfold wL_lawOf_462
  rw [e8]
  refine cp_step hQ hr (by omega) (cp_Sp_b hV hk (by omega) hz2) (fun u' hu' => ?_)
  obtain ⟨g0, g1, g2, b1, b2, b3, b4, b5, b6, b7, b8, b9, b10, b11⟩ := u'
  rw [cp_sp1 hV hk]
  refine br_t hz0.symm ?_
  refine cp_step hu' hr (by omega) (cp_Sp_b hV hk (by omega) hz2) (fun u' hu' => ?_)
  obtain ⟨g0, g1, g2, b1, b2, b3, b4, b5, b6, b7, b8, b9, b10, b11⟩ := u'
  rw [cp_sp0 hV hk]
  refine br_t rfl ?_
  refine cp_step (t := 2147483647) hu' hr (by omega) (cp_Sp_b hV hk (by omega) hz2) (fun u' hu' => ?_)
  obtain ⟨g0, g1, g2, b1, b2, b3, b4, b5, b6, b7, b8, b9, b10, b11⟩ := u'
  rw [cp_spM hV hk]
  refine br_t rfl ?_
  refine cp_cost (t := 2147483647) hu' hr (by omega) (fun u' hu' => ?_)
  obtain ⟨g0, g1, g2, b1, b2, b3, b4, b5, b6, b7, b8, b9, b10, b11⟩ := u'
  rw [e0]
  refine br_t rfl ?_
  refine cp_price (i := 2) (x := 20) [] hu' (by show 2 < 3; omega) (by omega) (by omega) (fun u' hu' => ?_)
  obtain ⟨g0, g1, g2, b1, b2, b3, b4, b5, b6, b7, b8, b9, b10, b11⟩ := u'
  refine br_t rfl ?_
  have h1 : cp_Q (cp_S2 k (e + 1)) [x, y, 20] [] (g0, g1, g2, b1, b2, b3, b4, b5, b6, b7, b8, b9, b10, b11) := hu'
  refine cp_price_n (i := 2) (x := 21) h1 (by omega) (by omega) (Or.inr (by omega)) (br_t rfl ?_)
  refine cp_price (i := 0) (x := 1) V3 h1 (by show 0 < 3; omega) (by omega) (by omega) (fun u' hu' => ?_)
  obtain ⟨g0, g1, g2, b1, b2, b3, b4, b5, b6, b7, b8, b9, b10, b11⟩ := u'
  refine br_t rfl ?_
  have h2 : cp_Q (cp_S2 k (e + 1)) [1, y, 20] V3 (g0, g1, g2, b1, b2, b3, b4, b5, b6, b7, b8, b9, b10, b11) := hu'
  refine cp_cost (t := 8 + k) h2 hr3 (by omega) (fun u' hu' => ?_)
  obtain ⟨g0, g1, g2, b1, b2, b3, b4, b5, b6, b7, b8, b9, b10, b11⟩ := u'
  rw [cp_Sp_at hV3 (by omega), show 9 + k - (8 + k) = 1 by omega, cp_C1 hk]
  have e1 : 1 + nI y = nI (1 + y) := nI_add 1 y
  refine pk_le k 0 (fun h => ?_) (fun h => ?_)
  · rw [if_pos (by omega)]
    exact cp_577 hp hk he hy1 hy2 hu' e1.symm
  · rw [if_neg (by omega)]
    unfold wpL_least
    refine pk_le 20 (1 + y) (fun h' => ?_) (fun h' => ?_) rfl e1
    · rw [if_pos h']
      exact cp_577 hp hk he hy1 hy2 hu' rfl
    · rw [if_neg (by omega)]
      exact cp_577 hp hk he hy1 hy2 hu' e1.symm
theorem cp_404 {x2 x3 z0 z1 : Int32} {T : Nat} (hp : post 1 ()) (hk : k < 4) (he : e < 4) (hx1 : 1 ≤ x) (hx2 : x ≤ 20) (hy1 : 1 ≤ y) (hy2 : y ≤ 20) (hz1 : 1 ≤ z) (hz2 : z ≤ 20) (hq : q < 128) (h2 : x2 &&& 127 = nI q) (hQ : cp_Q (cp_S2 k (e + 1)) [x, y, z] V (f0, f1, f2, a1, a2, a3, a4, a5, a6, a7, a8, a9, a10, a11)) (hr : cp_run (cp_S2 k (e + 1)) [x, y, z] 149 cp_z14 = some V) (hV : cp_Sp k (x + y) z V) (hT : cp_Tt k (x + y) z q (4 + k) T) (hz : z1 = z0) :
    wL_lawOf_404 post mc ms x2 x3 (nI k) (nI x) (nI y) (nI z) (nI (9 + k)) (nI (x + y)) (nI T) z0 z1 kc ks f0 f1 f2 a1 a2 a3 a4 a5 a6 a7 a8 a9 a10 a11 := by
  unfold wL_lawOf_404
  rw [h2]
  refine br_t hz ?_
  refine cp_total (m := T) hQ hr (by omega) (cp_tot_b hk (by omega) hz2 hq hV) (cp_tot_ex hk (by omega) hz2 hq hV hT) (cp_tot_min hk hV hT) (fun u' hu' => ?_)
  obtain ⟨g0, g1, g2, b1, b2, b3, b4, b5, b6, b7, b8, b9, b10, b11⟩ := u'
  refine br_t rfl ?_
  refine cp_total_n (Or.inr (by decide)) (br_t rfl ?_)
  refine cp_total_n (Or.inl (by decide)) (br_t rfl ?_)
  have c1 := cp_C1 (b := x + y) (z := z) hk
  refine pk_le k 0 (fun h => ?_) (fun h => ?_)
  · rw [if_pos (by omega)] at c1
    exact cp_462 hp hk he hx1 hx2 hy1 hy2 hz1 hz2 hu' hr hV (by rw [c1])
  · rw [if_neg (by omega)] at c1
    unfold wpL_least
    refine pk_le z (x + y) (fun h' => ?_) (fun h' => ?_)
    · rw [if_pos h'] at c1
      exact cp_462 hp hk he hx1 hx2 hy1 hy2 hz1 hz2 hu' hr hV (by rw [c1])
    · rw [if_neg (by omega)] at c1
      exact cp_462 hp hk he hx1 hx2 hy1 hy2 hz1 hz2 hu' hr hV (by rw [c1])
end
end
section
/-! the law's two loops -/
section
variable {f0 f1 f2 : Int32} {a1 a2 a3 a4 a5 a6 a7 a8 a9 a10 a11 : Nat → Int32} {V : List (Nat × Nat)} {post : Int32 → St0 → Prop} {mc ms kc ks k e x y z q : Nat}
theorem cp_361 {J261 : Int32 → Int32 → Int32 → Int32 → Int32 → Int32 → (Nat → Int32) → (Nat → Int32) → (Nat → Int32) → (Nat → Int32) → (Nat → Int32) → (Nat → Int32) → (Nat → Int32) → (Nat → Int32) → (Nat → Int32) → (Nat → Int32) → (Nat → Int32) → Prop} {x2 x3 x4 x6 x7 x8 x9 x11 x12 z0 : Int32} {T d c t : Nat} (h2 : x2 &&& 127 = nI q) (hT : T ≤ 1000000) (hc : c + q * t < 2 ^ 31)
    (H1 : c + q * t ≤ T → J261 (nI (c + q * t)) z0 (nI (d + 1)) f0 f1 f2 a1 a2 a3 a4 a5 a6 a7 a8 a9 a10 a11) (H2 : T ≤ c + q * t → J261 (nI T) z0 (nI (d + 1)) f0 f1 f2 a1 a2 a3 a4 a5 a6 a7 a8 a9 a10 a11) :
    wL_lawOf_361 post mc ms J261 x2 x3 x4 x6 x7 x8 x9 x11 x12 (nI T) (nI d) (nI c) (nI t) z0 kc ks f0 f1 f2 a1 a2 a3 a4 a5 a6 a7 a8 a9 a10 a11 := by
  unfold wL_lawOf_361 wpL_least
  have ee : nI c + nI q * nI t = nI (c + q * t) := by rw [pk_mul, nI_add]
  rw [h2, ee]
  exact pk_le (c + q * t) T (fun h => nm_r (nI_1 d) (H1 h)) (fun h => nm_r (nI_1 d) (H2 (by omega)))
theorem cp_277 {J261 : Int32 → Int32 → Int32 → Int32 → Int32 → Int32 → (Nat → Int32) → (Nat → Int32) → (Nat → Int32) → (Nat → Int32) → (Nat → Int32) → (Nat → Int32) → (Nat → Int32) → (Nat → Int32) → (Nat → Int32) → (Nat → Int32) → (Nat → Int32) → Prop} {x2 x3 x4 w : Int32} {T d : Nat} (hk : k < 4) (hx2 : x ≤ 20) (hy2 : y ≤ 20) (hz2 : z ≤ 20) (hq : q < 128) (h2 : x2 &&& 127 = nI q) (hd : d ≤ 3 + k)
    (hQ : cp_Q (cp_S2 k (e + 1)) [x, y, z] V (f0, f1, f2, a1, a2, a3, a4, a5, a6, a7, a8, a9, a10, a11)) (hr : cp_run (cp_S2 k (e + 1)) [x, y, z] 149 cp_z14 = some V) (hV : cp_Sp k (x + y) z V) (hT : cp_Tt k (x + y) z q d T) (hw : cp_Ww k (x + y) z d x4 w)
    (H : ∀ (T' : Nat) (w' : Int32) g0 g1 g2 b1 b2 b3 b4 b5 b6 b7 b8 b9 b10 b11, cp_Tt k (x + y) z q (d + 1) T' → cp_Ww k (x + y) z (d + 1) x4 w' → cp_Q (cp_S2 k (e + 1)) [x, y, z] V (g0, g1, g2, b1, b2, b3, b4, b5, b6, b7, b8, b9, b10, b11) → J261 (nI T') w' (nI (d + 1)) g0 g1 g2 b1 b2 b3 b4 b5 b6 b7 b8 b9 b10 b11) :
    ∃ n, wL_lawOf_277 post mc ms J261 x2 x3 x4 (nI k) (nI x) (nI y) (nI z) (nI (9 + k)) (nI (x + y)) (nI T) w (nI d) kc ks f0 f1 f2 a1 a2 a3 a4 a5 a6 a7 a8 a9 a10 a11 n 1000000 0 := by
  have hC := cp_C_le (b := x + y) (z := z) (d := d) hk hd (by omega) hz2
  have hqt : q * (9 + k - d) ≤ 127 * 12 := Nat.mul_le_mul (by omega) (by omega)
  refine pk_loop (σ := Unit) (fun n u _ => wL_lawOf_277 post mc ms J261 x2 x3 x4 (nI k) (nI x) (nI y) (nI z) (nI (9 + k)) (nI (x + y)) (nI T) w (nI d) kc ks f0 f1 f2 a1 a2 a3 a4 a5 a6 a7 a8 a9 a10 a11 n (nI (cp_mn k (x + y) z d u)) (nI u)) (fun _ _ => True) 4 0 () (by omega) trivial ?_ ?_
  · intro n s _
    refine pk_lt 3 4 (fun _ => nm_r (pk_sub (by omega)) ?_) (fun h => absurd h (by omega))
    rw [cp_mnC hk hd (by omega) hz2]
    refine cp_cost hQ hr (by omega) (fun u' hu' => ?_)
    obtain ⟨g0, g1, g2, b1, b2, b3, b4, b5, b6, b7, b8, b9, b10, b11⟩ := u'
    rw [cp_Sp_at hV (by omega), show 9 + k - (9 + k - d) = d by omega]
    refine br_t rfl ?_
    by_cases h4 : x4 < nI (cp_C k (x + y) z d)
    · exact br_t h4 (cp_361 h2 hT.1 (by omega) (fun h => H _ _ g0 g1 g2 b1 b2 b3 b4 b5 b6 b7 b8 b9 b10 b11 (cp_Tt_n hT h) (cp_Ww_k (by omega) hw h4) hu') (fun h => H _ _ g0 g1 g2 b1 b2 b3 b4 b5 b6 b7 b8 b9 b10 b11 (cp_Tt_k hT h) (cp_Ww_k (by omega) hw h4) hu'))
    · exact br_f h4 (cp_361 h2 hT.1 (by omega) (fun h => H _ _ g0 g1 g2 b1 b2 b3 b4 b5 b6 b7 b8 b9 b10 b11 (cp_Tt_n hT h) (cp_Ww_n (w := w) (by omega) h4) hu') (fun h => H _ _ g0 g1 g2 b1 b2 b3 b4 b5 b6 b7 b8 b9 b10 b11 (cp_Tt_k hT h) (cp_Ww_n (w := w) (by omega) h4) hu'))
  · intro n u s hu _ hs
    have M := hs () trivial
    rw [cp_mn] at M
    refine pk_lt 3 u (fun h => absurd h (by omega)) (fun _ => ?_)
    by_cases hud : u ≤ d
    · refine nm_r (pk_sub hud) (br_f (nI_pos (by omega)) (pk_lt k (d - u) (fun h => ?_) (fun h => ?_)))
      · rw [if_neg (by omega)] at M
        exact nm_r (nI_1 u) M
      · rw [if_pos ⟨hud, h⟩] at M
        have c1 : u * (x + y) ≤ 3 * 40 := Nat.mul_le_mul (by omega) (by omega)
        have c2 : (d - u) * z ≤ 6 * 20 := Nat.mul_le_mul (by omega) (by omega)
        have c3 := cp_mn_p (k := k) (b := x + y) (z := z) (d := d) u
        have ee : nI u * nI (x + y) + nI (d - u) * nI z = nI (u * (x + y) + (d - u) * z) := by rw [pk_mul, pk_mul, nI_add]
        unfold wpL_least
        refine pk_le (u * (x + y) + (d - u) * z) (cp_mn k (x + y) z d u) (fun h' => ?_) (fun h' => ?_) ee rfl (by omega) (by omega)
        · rw [if_pos h'] at M
          rw [ee]
          exact nm_r (nI_1 u) M
        · rw [if_neg (by omega)] at M
          exact nm_r (nI_1 u) M
    · rw [if_neg (fun h => hud h.1)] at M
      exact nm_e (br_t (pk_sneg (by omega) (by omega)) (nm_r (nI_1 u) M))
theorem cp_261 {x2 x3 x4 : Int32} (hp : post 1 ()) (hk : k < 4) (he : e < 4) (hx1 : 1 ≤ x) (hx2 : x ≤ 20) (hy1 : 1 ≤ y) (hy2 : y ≤ 20) (hz1 : 1 ≤ z) (hz2 : z ≤ 20) (hq : q < 128) (h2 : x2 &&& 127 = nI q) (hQ : cp_Q (cp_S2 k (e + 1)) [x, y, z] V (f0, f1, f2, a1, a2, a3, a4, a5, a6, a7, a8, a9, a10, a11)) (hr : cp_run (cp_S2 k (e + 1)) [x, y, z] 149 cp_z14 = some V) (hV : cp_Sp k (x + y) z V) :
    ∃ n, wL_lawOf_261 post mc ms x2 x3 x4 (nI k) (nI x) (nI y) (nI z) (nI (9 + k)) (nI (x + y)) kc ks n 1000000 (-1) 0 f0 f1 f2 a1 a2 a3 a4 a5 a6 a7 a8 a9 a10 a11 := by
  have e3 : 3 + nI k = nI (3 + k) := nI_add 3 k
  refine pk_loop (σ := Int32 × Int32 × St2) (fun n i s => wL_lawOf_261 post mc ms x2 x3 x4 (nI k) (nI x) (nI y) (nI z) (nI (9 + k)) (nI (x + y)) kc ks n s.1 s.2.1 (nI i) s.2.2.1 s.2.2.2.1 s.2.2.2.2.1 s.2.2.2.2.2.1 s.2.2.2.2.2.2.1 s.2.2.2.2.2.2.2.1 s.2.2.2.2.2.2.2.2.1 s.2.2.2.2.2.2.2.2.2.1 s.2.2.2.2.2.2.2.2.2.2.1 s.2.2.2.2.2.2.2.2.2.2.2.1 s.2.2.2.2.2.2.2.2.2.2.2.2.1 s.2.2.2.2.2.2.2.2.2.2.2.2.2.1 s.2.2.2.2.2.2.2.2.2.2.2.2.2.2.1 s.2.2.2.2.2.2.2.2.2.2.2.2.2.2.2)
    (fun i s => cp_Q (cp_S2 k (e + 1)) [x, y, z] V s.2.2 ∧ (∃ T, s.1 = nI T ∧ cp_Tt k (x + y) z q i T) ∧ cp_Ww k (x + y) z i x4 s.2.1) (4 + k) 0 (1000000, -1, (f0, f1, f2, a1, a2, a3, a4, a5, a6, a7, a8, a9, a10, a11)) (by omega)
    ⟨hQ, ⟨1000000, rfl, Nat.le_refl _, fun j hj => absurd hj (by omega), Or.inl rfl⟩, fun β _ _ => Or.inl rfl⟩ ?_ ?_
  · intro n s h
    obtain ⟨x13, x14, g0, g1, g2, b1, b2, b3, b4, b5, b6, b7, b8, b9, b10, b11⟩ := s
    obtain ⟨k1, ⟨T, k2, k3⟩, k4⟩ := h
    dsimp only at k1 k2 k4 ⊢
    subst k2
    refine pk_lt (3 + k) (4 + k) (fun _ => ?_) (fun h => absurd h (by omega)) e3
    by_cases h0 : x4 < 0
    · have h0' : ¬ 0 ≤ x4 := Int32.not_le.mpr h0
      refine cp_within_n h0' (br_f h0' ?_)
      exact cp_404 hp hk he hx1 hx2 hy1 hy2 hz1 hz2 hq h2 k1 hr hV k3 rfl
    · obtain ⟨β, hβ, e4⟩ := nI_of h0
      obtain ⟨t0, t1, t2, t3, t4⟩ := cp_wit hk (by omega) hz2 hV hβ e4 k4
      subst e4
      refine cp_within k1 hr hβ t1 t3 t4 (fun u' hu' => ?_)
      obtain ⟨g0, g1, g2, b1, b2, b3, b4, b5, b6, b7, b8, b9, b10, b11⟩ := u'
      exact br_t (nI_pos' hβ) (cp_404 hp hk he hx1 hx2 hy1 hy2 hz1 hz2 hq h2 hu' hr hV k3 t2.symm)
  · intro n i s hi h hs
    obtain ⟨x13, x14, g0, g1, g2, b1, b2, b3, b4, b5, b6, b7, b8, b9, b10, b11⟩ := s
    obtain ⟨k1, ⟨T, k2, k3⟩, k4⟩ := h
    dsimp only at k1 k2 k4 ⊢
    subst k2
    refine pk_lt (3 + k) i (fun h => absurd h (by omega)) (fun _ => ?_) e3
    exact cp_277 hk hx2 hy2 hz2 hq h2 (by omega) k1 hr hV k3 k4 (fun T' w' c0 c1 c2 d1 d2 d3 d4 d5 d6 d7 d8 d9 d10 d11 m1 m2 m3 => hs (nI T', w', (c0, c1, c2, d1, d2, d3, d4, d5, d6, d7, d8, d9, d10, d11)) ⟨m3, ⟨T', rfl, m1⟩, m2⟩)
end
end
section
/-! the law from its start -/
section
variable {post : Int32 → St0 → Prop}
theorem cp_rem1 (a : Nat) (h : a < 2 ^ 8) : 1 + (nI a - nI a / 20 * 20) = nI (1 + a % 20) := by
  have e : nI a - nI a / 20 * 20 = nI (a % 20) := pk_rem (a := a) (d := 20) (by omega) (by omega) (by omega)
  rw [e]
  exact nI_add 1 _
theorem cp_lawOf {p0 p1 p2 p3 p4 : Int32} (hp : post 1 ()) : wpL_lawOf post 216 3440 () p0 p1 p2 p3 p4 := by
  obtain ⟨k, hk, ek⟩ := pk_andE p0 (m := 3) 2 (by decide)
  obtain ⟨e, he, ee⟩ := pk_andE (p0 >>> ((2 : Int32) &&& 31)) (m := 3) 2 (by decide)
  obtain ⟨x', hx, ex⟩ := pk_andE p1 (m := 255) 8 (by decide)
  obtain ⟨y', hy, ey⟩ := pk_andE (p1 >>> ((8 : Int32) &&& 31)) (m := 255) 8 (by decide)
  obtain ⟨z', hz, ez⟩ := pk_andE (p1 >>> ((16 : Int32) &&& 31)) (m := 255) 8 (by decide)
  obtain ⟨q, hq, eq⟩ := pk_andE p2 (m := 127) 7 (by decide)
  have hx1 : 1 ≤ 1 + x' % 20 := by omega
  have hx2 : 1 + x' % 20 ≤ 20 := by omega
  have hy1 : 1 ≤ 1 + y' % 20 := by omega
  have hy2 : 1 + y' % 20 ≤ 20 := by omega
  have hz1 : 1 ≤ 1 + z' % 20 := by omega
  have hz2 : 1 + z' % 20 ≤ 20 := by omega
  obtain ⟨V, hr, hV⟩ := cp_run2 (x := 1 + x' % 20) (y := 1 + y' % 20) (z := 1 + z' % 20) hk he hx1 hx2 hy1 hy2 hz1 hz2
  have e10 : 1 + nI e = nI (e + 1) := (nI_add 1 e).trans (by rw [Nat.add_comm])
  have Ex := cp_rem1 x' hx
  have Ey := cp_rem1 y' hy
  have Ez := cp_rem1 z' hz
  unfold wpL_lawOf
  rw [ek, ee, ex, ey, ez]
  generalize 1 + x' % 20 = x at *
  generalize 1 + y' % 20 = y at *
  generalize 1 + z' % 20 = z at *
  refine ⟨by omega, by omega, 11, 367, by omega, by omega, ?_⟩
  unfold wpX_init
  dsimp only
  refine ⟨by omega, by omega, by omega, by omega, by omega, by omega, by omega, by omega, by omega, by omega, by omega, by omega, by omega, by omega, by omega, by omega, by omega, by omega, by omega, by omega, by omega, by omega, ?_⟩
  refine nm_e ⟨by decide, nm_r Ex ⟨by decide, nm_r Ey ⟨by decide, nm_r Ez (nm_r e10 ?_)⟩⟩⟩
  have h0 : cp_Q [] [] [] (0, 0, 0, (fun _ => 0), (fun _ => 0), (fun _ => 0), (fun _ => 0), (fun _ => 0), (fun _ => 0), (fun _ => 0), (fun _ => 0), (fun _ => 0), (fun _ => 0), (fun _ => 0)) :=
    ⟨⟨by decide, rfl, rfl, fun j hj => absurd hj (Nat.not_lt_zero j)⟩, Or.inl rfl⟩
  refine cp_slowest h0 cp_run0 (fun u' hu' => ?_)
  obtain ⟨g0, g1, g2, b1, b2, b3, b4, b5, b6, b7, b8, b9, b10, b11⟩ := u'
  refine br_t rfl ?_
  refine cp_cost (t := 0) hu' cp_run0 (by omega) (fun u' hu' => ?_)
  obtain ⟨g0, g1, g2, b1, b2, b3, b4, b5, b6, b7, b8, b9, b10, b11⟩ := u'
  refine br_t rfl ?_
  refine cp_step (t := 0) hu' cp_run0 (by omega) (fun c hc => by have := Option.some.inj hc; omega) (fun u' hu' => ?_)
  obtain ⟨g0, g1, g2, b1, b2, b3, b4, b5, b6, b7, b8, b9, b10, b11⟩ := u'
  refine br_t rfl ?_
  refine cp_within (β := 0) (t0 := 0) hu' cp_run0 (by omega) (by omega) (fun t ht => absurd ht (Nat.not_lt_zero t)) ⟨0, rfl, by omega⟩ (fun u' hu' => ?_)
  obtain ⟨g0, g1, g2, b1, b2, b3, b4, b5, b6, b7, b8, b9, b10, b11⟩ := u'
  refine br_t rfl ?_
  refine cp_total (q := 200) (m := 0) hu' cp_run0 (by omega) (fun t ht c hc => by have := Option.some.inj hc; omega) ⟨0, by omega, 0, rfl, rfl⟩ (fun t ht c hc => Nat.zero_le _) (fun u' hu' => ?_)
  obtain ⟨g0, g1, g2, b1, b2, b3, b4, b5, b6, b7, b8, b9, b10, b11⟩ := u'
  refine br_t rfl ?_
  refine cp_add (a := 0) (b := e + 1) (s := 5) (f := 2) (x := x) [] hu' (by show 0 < 7; omega) (by omega) (by omega) (by omega) (by omega) (by omega) hx1 hx2 (fun u' hu' => ?_)
  obtain ⟨g0, g1, g2, b1, b2, b3, b4, b5, b6, b7, b8, b9, b10, b11⟩ := u'
  refine br_t rfl ?_
  refine cp_add (a := 0) (b := e + 1) (s := 5) (f := 2) (x := y) [] hu' (by show 1 < 7; omega) (by omega) (by omega) (by omega) (by omega) (by omega) hy1 hy2 (fun u' hu' => ?_)
  obtain ⟨g0, g1, g2, b1, b2, b3, b4, b5, b6, b7, b8, b9, b10, b11⟩ := u'
  refine br_t rfl ?_
  have h1 : cp_Q (cp_S1 (e + 1)) [x, y] [] (g0, g1, g2, b1, b2, b3, b4, b5, b6, b7, b8, b9, b10, b11) := hu'
  refine cp_slowest h1 (cp_run1 he hx1 hy1) (fun u' hu' => ?_)
  obtain ⟨g0, g1, g2, b1, b2, b3, b4, b5, b6, b7, b8, b9, b10, b11⟩ := u'
  refine br_t rfl ?_
  have e4 : 4 + nI k = nI (4 + k) := nI_add 4 k
  rw [e4]
  refine cp_add (a := e + 1) (b := 5) (s := 4 + k) (f := 4) (x := z) V hu' (by show 2 < 7; omega) (by omega) (by omega) (by omega) (by omega) (by omega) hz1 hz2 (fun u' hu' => ?_)
  obtain ⟨g0, g1, g2, b1, b2, b3, b4, b5, b6, b7, b8, b9, b10, b11⟩ := u'
  refine br_t rfl (nm_r (nI_add 9 k) ?_)
  have h2 : cp_Q (cp_S2 k (e + 1)) [x, y, z] V (g0, g1, g2, b1, b2, b3, b4, b5, b6, b7, b8, b9, b10, b11) := hu'
  refine cp_slowest h2 hr (fun u' hu' => ?_)
  obtain ⟨g0, g1, g2, b1, b2, b3, b4, b5, b6, b7, b8, b9, b10, b11⟩ := u'
  rw [hV.1]
  refine br_t rfl ?_
  refine cp_fastest hu' hr (fun u' hu' => ?_)
  obtain ⟨g0, g1, g2, b1, b2, b3, b4, b5, b6, b7, b8, b9, b10, b11⟩ := u'
  rw [hV.2.1]
  refine br_t rfl ?_
  have h5 : cp_cst V 5 0 = none := cp_Sp_none hV (by omega)
  refine cp_cost (t := 5) hu' hr (by omega) (fun u' hu' => ?_)
  obtain ⟨g0, g1, g2, b1, b2, b3, b4, b5, b6, b7, b8, b9, b10, b11⟩ := u'
  rw [h5]
  refine br_t rfl ?_
  have h5' : cp_sp V 5 = -1 := by
    unfold cp_sp
    rw [h5]
  refine cp_step (t := 5) hu' hr (by omega) (fun c hc => by rw [h5] at hc; exact absurd hc (by simp)) (fun u' hu' => ?_)
  obtain ⟨g0, g1, g2, b1, b2, b3, b4, b5, b6, b7, b8, b9, b10, b11⟩ := u'
  rw [h5']
  refine br_t rfl ?_
  refine cp_cost_n (by decide) (br_t rfl ?_)
  refine cp_step_n (by decide) (br_t rfl (nm_r (nI_add x y) ?_))
  exact cp_261 hp hk he hx1 hx2 hy1 hy2 hz1 hz2 hq eq hu' hr hV
theorem cp_cell {post : Int32 → Prop} {L i : Nat} {xs : Nat → Int32} (hL : L ≤ 5) (hi : i < 5) (H : ∀ v, post v) : wpL_cellAt post L xs () (nI i) := by
  unfold wpL_cellAt
  exact pk_le L i (fun _ => H _) (fun h => ⟨pk_in i L h rfl (by omega), H _⟩) rfl rfl (by omega) (by omega)
end
theorem i_vc (xs : Nat → Int32) (L : Nat) (hL : L ≤ 5) : wpL_law (fun r => r = 1) L xs := by
  unfold wpL_law
  exact cp_cell (i := 0) hL (by omega) (fun v0 => cp_cell (i := 1) hL (by omega) (fun v1 => cp_cell (i := 2) hL (by omega) (fun v2 => cp_cell (i := 3) hL (by omega) (fun v3 => cp_cell (i := 4) hL (by omega) (fun v4 =>
    ⟨216, 3440, by omega, by omega, cp_lawOf rfl⟩)))))
end
