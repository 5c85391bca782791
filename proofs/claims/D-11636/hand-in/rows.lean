section
/-- the fixed numbers of a script: the nodes a, v (via), b; start, one, two -/
abbrev cn_Q : Type := Nat × Nat × Nat × Nat × Nat × Nat
def cn_a (q : cn_Q) : Nat := q.1
def cn_v (q : cn_Q) : Nat := q.2.1
def cn_b (q : cn_Q) : Nat := q.2.2.1
def cn_s (q : cn_Q) : Nat := q.2.2.2.1
def cn_o (q : cn_Q) : Nat := q.2.2.2.2.1
def cn_w (q : cn_Q) : Nat := q.2.2.2.2.2
def cn_ok (q : cn_Q) : Prop := cn_a q < 6 ∧ cn_v q < 6 ∧ cn_b q < 6 ∧ cn_a q ≠ cn_v q ∧ cn_a q ≠ cn_b q ∧ cn_v q ≠ cn_b q ∧ cn_s q < 16 ∧ 1 ≤ cn_o q ∧ cn_o q ≤ 9 ∧ 1 ≤ cn_w q ∧ cn_w q ≤ 9
/-- the five contacts of the law: from, to, start, end, rate, delay -/
def cn_fr (q : cn_Q) (k : Nat) : Nat := if k < 2 then cn_a q else cn_v q
def cn_to (q : cn_Q) (k : Nat) : Nat := if k = 1 then cn_v q else cn_b q
def cn_S (q : cn_Q) (k : Nat) : Nat := if k = 0 then cn_s q else if k = 1 then 0 else if k = 2 then 30 else 60
def cn_E (q : cn_Q) (k : Nat) : Nat := if k = 0 then cn_s q + cn_o q + cn_w q else if k = 1 then 50 else if k = 3 then 61 else 99
def cn_R (k : Nat) : Nat := if k = 0 then 1 else 9
def cn_D (k : Nat) : Nat := if k = 2 then 3 else if k = 4 then 1 else 0
/-- the three bundles of the law: size, limit -/
def cn_z (q : cn_Q) (i : Nat) : Nat := if i = 0 then cn_o q else if i = 1 then cn_w q else 1
def cn_l (i : Nat) : Nat := if i = 2 then 200 else 100
def cn_t (k z : Nat) : Nat := (z + cn_R k - 1) / cn_R k
def cn_i (x : Bool) : Int32 := if x = true then 1 else 0
theorem cn_fr6 {q : cn_Q} (h : cn_ok q) (k : Nat) : cn_fr q k < 6 := by
  unfold cn_fr
  obtain ⟨h1, h2, h3, _⟩ := h
  split <;> assumption
theorem cn_to6 {q : cn_Q} (h : cn_ok q) (k : Nat) : cn_to q k < 6 := by
  unfold cn_to
  obtain ⟨h1, h2, h3, _⟩ := h
  split <;> assumption
theorem cn_S99 {q : cn_Q} (h : cn_ok q) (k : Nat) : cn_S q k ≤ 99 := by
  unfold cn_S
  obtain ⟨_, _, _, _, _, _, h7, _⟩ := h
  repeat' split
  all_goals omega
theorem cn_E99 {q : cn_Q} (h : cn_ok q) (k : Nat) : cn_E q k ≤ 99 := by
  unfold cn_E
  obtain ⟨_, _, _, _, _, _, h7, h8, h9, h10, h11⟩ := h
  repeat' split
  all_goals omega
theorem cn_R9 (k : Nat) : 1 ≤ cn_R k ∧ cn_R k ≤ 9 := by
  unfold cn_R
  split <;> omega
theorem cn_D9 (k : Nat) : cn_D k ≤ 9 := by
  unfold cn_D
  repeat' split
  all_goals omega
theorem cn_z9 {q : cn_Q} (h : cn_ok q) (i : Nat) : 1 ≤ cn_z q i ∧ cn_z q i ≤ 9 := by
  unfold cn_z
  obtain ⟨_, _, _, _, _, _, h7, h8, h9, h10, h11⟩ := h
  repeat' split
  all_goals omega
theorem cn_t0 {z : Nat} : cn_t 0 z = z := by
  show (z + 1 - 1) / 1 = z
  omega
theorem cn_t9 {k z : Nat} (hk : k ≠ 0) (h1 : 1 ≤ z) (h9 : z ≤ 9) : cn_t k z = 1 := by
  unfold cn_t cn_R
  rw [if_neg hk]
  omega
theorem cn_t30 {k z : Nat} (h1 : 1 ≤ z) (h9 : z ≤ 30) : 1 ≤ cn_t k z ∧ cn_t k z ≤ 30 := by
  unfold cn_t cn_R
  split <;> omega
/-- the least begin: free ticks so far x, the tick t, f ticks to look at -/
noncomputable def cn_fb (B : Nat → Prop) (tk : Nat) : Nat → Nat → Nat → Option Nat
  | 0, _, _ => none
  | f + 1, x, t => if @ite Nat (B t) (Classical.propDecidable (B t)) 0 (x + 1) = tk then some (t + 1 - tk) else cn_fb B tk f (@ite Nat (B t) (Classical.propDecidable (B t)) 0 (x + 1)) (t + 1)
theorem cn_fb_0 {B : Nat → Prop} {tk x t : Nat} : cn_fb B tk 0 x t = none := rfl
theorem cn_fb_s {B : Nat → Prop} {tk f x t : Nat} : cn_fb B tk (f + 1) x t = if @ite Nat (B t) (Classical.propDecidable (B t)) 0 (x + 1) = tk then some (t + 1 - tk) else cn_fb B tk f (@ite Nat (B t) (Classical.propDecidable (B t)) 0 (x + 1)) (t + 1) := rfl
theorem cn_fb_B {B : Nat → Prop} {tk f x t : Nat} (h : B t) (h0 : 1 ≤ tk) : cn_fb B tk (f + 1) x t = cn_fb B tk f 0 (t + 1) := by
  rw [cn_fb_s, if_pos h, if_neg (by omega)]
theorem cn_fb_n {B : Nat → Prop} {tk f x t : Nat} (h : ¬ B t) (h0 : x + 1 ≠ tk) : cn_fb B tk (f + 1) x t = cn_fb B tk f (x + 1) (t + 1) := by
  rw [cn_fb_s, if_neg h, if_neg h0]
theorem cn_fb_y {B : Nat → Prop} {tk f x t : Nat} (h : ¬ B t) (h0 : x + 1 = tk) : cn_fb B tk (f + 1) x t = some (t + 1 - tk) := by
  rw [cn_fb_s, if_neg h, if_pos h0]
theorem cn_fb_free {B : Nat → Prop} {tk : Nat} : ∀ j f x t, (∀ y, t ≤ y → y < t + j → ¬ B y) → x + j = tk → 1 ≤ j → j ≤ f → cn_fb B tk f x t = some (t + j - tk) := by
  intro j
  induction j with
  | zero => intro f x t _ _ h; omega
  | succ j ih =>
    intro f x t hb hx _ hf
    obtain ⟨f, rfl⟩ : ∃ g, f = g + 1 := ⟨f - 1, by omega⟩
    rcases Nat.eq_zero_or_pos j with h0 | h0
    · subst h0
      exact cn_fb_y (hb t (by omega) (by omega)) (by omega)
    · rw [cn_fb_n (hb t (by omega) (by omega)) (by omega), ih f (x + 1) (t + 1) (fun y h1 h2 => hb y (by omega) (by omega)) (by omega) (by omega) (by omega)]
      congr 1
      omega
theorem cn_fb_busy {B : Nat → Prop} {tk : Nat} (h0 : 1 ≤ tk) : ∀ j f x t, (∀ y, t ≤ y → y < t + j → B y) → 1 ≤ j → j ≤ f → cn_fb B tk f x t = cn_fb B tk (f - j) 0 (t + j) := by
  intro j
  induction j with
  | zero => intro f x t _ h; omega
  | succ j ih =>
    intro f x t hb _ hf
    obtain ⟨f, rfl⟩ : ∃ g, f = g + 1 := ⟨f - 1, by omega⟩
    rw [cn_fb_B (hb t (by omega) (by omega)) h0]
    rcases Nat.eq_zero_or_pos j with h0 | h0
    · subst h0
      rw [show f + 1 - (0 + 1) = f by omega]
    · rw [ih f 0 (t + 1) (fun y h1 h2 => hb y (by omega) (by omega)) (by omega) (by omega)]
      congr 1
      all_goals omega
theorem cn_fb1 {B : Nat → Prop} {tk f m g : Nat} (h0 : 1 ≤ tk) (hm : m ≤ g) (hg : g + tk ≤ m + f) (hb : ∀ y, m ≤ y → y < g → B y) (hn : ∀ y, g ≤ y → y < g + tk → ¬ B y) : cn_fb B tk f 0 m = some g := by
  have e : cn_fb B tk (m + f - g) 0 g = some g := by
    rw [cn_fb_free tk (m + f - g) 0 g hn (by omega) h0 (by omega)]
    congr 1
    omega
  rcases Nat.eq_or_lt_of_le hm with h | h
  · subst h
    rw [show m + f - m = f by omega] at e
    exact e
  · rw [cn_fb_busy h0 (g - m) f 0 m (fun y h1 h2 => hb y h1 (by omega)) (by omega) (by omega), show f - (g - m) = m + f - g by omega, show m + (g - m) = g by omega]
    exact e
theorem cn_fb2 {B : Nat → Prop} {tk f m : Nat} (h0 : 1 ≤ tk) (hb : ∀ y, m ≤ y → y < m + f → B y) : cn_fb B tk f 0 m = none := by
  rcases Nat.eq_zero_or_pos f with h | h
  · subst h
    rfl
  · rw [cn_fb_busy h0 f f 0 m hb h (Nat.le_refl f), Nat.sub_self]
    rfl
theorem cn_fb_ge {B : Nat → Prop} {tk bg g : Nat} : ∀ f x t, cn_fb B tk f x t = some g → x + bg ≤ t → bg ≤ g ∧ g + tk ≤ t + f := by
  intro f
  induction f with
  | zero => intro x t h; exact absurd h (by rw [cn_fb_0]; exact fun z => nomatch z)
  | succ f ih =>
    intro x t h hx
    rw [cn_fb_s] at h
    have hy : @ite Nat (B t) (Classical.propDecidable (B t)) 0 (x + 1) ≤ x + 1 := by split <;> omega
    generalize @ite Nat (B t) (Classical.propDecidable (B t)) 0 (x + 1) = y at h hy
    by_cases e : y = tk
    · rw [if_pos e] at h
      have := Option.some.inj h
      omega
    · rw [if_neg e] at h
      have := ih y (t + 1) h (by omega)
      omega
/-- when a bundle that is ready at r comes in over a contact -/
noncomputable def cn_ci (cc : Bool) (S E tk D : Nat) (B : Nat → Prop) (r : Nat) : Nat :=
  if cc = true ∨ 1000000 ≤ r then 1000000 else (cn_fb B tk (E - max r S) 0 (max r S)).elim 1000000 (fun g => g + tk + D)
theorem cn_ci_c {S E tk D : Nat} {B : Nat → Prop} {r : Nat} : cn_ci true S E tk D B r = 1000000 := if_pos (Or.inl rfl)
theorem cn_ci_N {cc : Bool} {S E tk D : Nat} {B : Nat → Prop} : cn_ci cc S E tk D B 1000000 = 1000000 := if_pos (Or.inr (Nat.le_refl _))
theorem cn_ci_0 {cc : Bool} {S E tk D : Nat} {B : Nat → Prop} {r : Nat} (h0 : 1 ≤ tk) (hb : ∀ y, r ≤ y → S ≤ y → y < E → B y) : cn_ci cc S E tk D B r = 1000000 := by
  unfold cn_ci
  split
  · rfl
  · rw [cn_fb2 h0 (fun y h1 h2 => hb y (by omega) (by omega) (by omega))]
    rfl
theorem cn_ci_fb {S E tk : Nat} {B : Nat → Prop} {r g : Nat} (h0 : 1 ≤ tk) (h1 : r ≤ g) (h2 : S ≤ g) (hg : g + tk ≤ E) (hb : ∀ y, r ≤ y → S ≤ y → y < g → B y) (hn : ∀ y, g ≤ y → y < g + tk → ¬ B y) : cn_fb B tk (E - max r S) 0 (max r S) = some g :=
  cn_fb1 h0 (by omega) (by omega) (fun y h1 h2 => hb y (by omega) (by omega) h2) hn
theorem cn_ci_1 {S E tk D : Nat} {B : Nat → Prop} {r g : Nat} (h0 : 1 ≤ tk) (hr : r < 1000000) (h : cn_fb B tk (E - max r S) 0 (max r S) = some g) : cn_ci false S E tk D B r = g + tk + D := by
  unfold cn_ci
  rw [if_neg (fun z => z.elim (fun e => nomatch e) (fun e => absurd e (by omega))), h]
  rfl
theorem cn_ci_ge {cc : Bool} {S E tk D : Nat} {B : Nat → Prop} {r : Nat} (h : cn_ci cc S E tk D B r < 1000000) : r + tk + D ≤ cn_ci cc S E tk D B r ∧ S + tk + D ≤ cn_ci cc S E tk D B r ∧ cn_ci cc S E tk D B r ≤ E + D := by
  unfold cn_ci at h ⊢
  split at h
  · omega
  · rename_i hc
    rw [if_neg hc]
    rcases hf : cn_fb B tk (E - max r S) 0 (max r S) with _ | g
    · rw [hf] at h
      exact absurd h (by show ¬ 1000000 < 1000000; omega)
    · have h1 := cn_fb_ge (bg := max r S) _ _ _ hf (by omega)
      have h2 : 0 < E - max r S := by
        rcases Nat.eq_zero_or_pos (E - max r S) with z | z
        · rw [z] at hf
          exact nomatch hf
        · exact z
      show r + tk + D ≤ g + tk + D ∧ S + tk + D ≤ g + tk + D ∧ g + tk + D ≤ E + D
      omega
theorem cn_ci_le {cc : Bool} {S E tk D : Nat} {B : Nat → Prop} {r : Nat} (hE : E ≤ 99) (hD : D ≤ 9) : cn_ci cc S E tk D B r ≤ 1000000 := by
  rcases Nat.lt_or_ge (cn_ci cc S E tk D B r) 1000000 with h | h
  · omega
  · unfold cn_ci
    split
    · omega
    · rcases hf : cn_fb B tk (E - max r S) 0 (max r S) with _ | g
      · exact Nat.le_refl _
      · have h1 := cn_fb_ge (bg := max r S) _ _ _ hf (by omega)
        have h2 : 0 < E - max r S := by
          rcases Nat.eq_zero_or_pos (E - max r S) with z | z
          · rw [z] at hf
            exact nomatch hf
          · exact z
        show g + tk + D ≤ 1000000
        omega
noncomputable def cn_c (q : cn_Q) (C : Nat → Bool) (B : Nat → Nat → Prop) (z k r : Nat) : Nat := cn_ci (C k) (cn_S q k) (cn_E q k) (cn_t k z) (cn_D k) (B k) r
theorem cn_c_le {q : cn_Q} (h : cn_ok q) {C : Nat → Bool} {B : Nat → Nat → Prop} {z k r : Nat} : cn_c q C B z k r ≤ 1000000 := cn_ci_le (cn_E99 h k) (cn_D9 k)
theorem cn_c_N {q : cn_Q} {C : Nat → Bool} {B : Nat → Nat → Prop} {z k : Nat} : cn_c q C B z k 1000000 = 1000000 := cn_ci_N
/-- one round over the contacts below k -/
def cn_rd (q : cn_Q) (c : Nat → Nat → Nat) (E : Nat → Nat) : Nat → Nat → Nat
  | 0 => E
  | k + 1 => fun j => if j = cn_to q k then min (cn_rd q c E k j) (c k (E (cn_fr q k))) else cn_rd q c E k j
def cn_sp (q : cn_Q) (c : Nat → Nat → Nat) (n node r : Nat) : Nat → Nat → Nat
  | 0 => fun j => if j = node then r else 1000000
  | i + 1 => cn_rd q c (cn_sp q c n node r i) n
theorem cn_rd_le {q : cn_Q} {c : Nat → Nat → Nat} {E : Nat → Nat} (hE : ∀ j, E j ≤ 1000000) : ∀ k j, cn_rd q c E k j ≤ 1000000 := by
  intro k
  induction k with
  | zero => exact hE
  | succ k ih =>
    intro j
    show (if j = cn_to q k then min (cn_rd q c E k j) (c k (E (cn_fr q k))) else cn_rd q c E k j) ≤ 1000000
    have := ih j
    split <;> omega
theorem cn_sp_le {q : cn_Q} {c : Nat → Nat → Nat} {n node r : Nat} (hr : r ≤ 1000000) : ∀ i j, cn_sp q c n node r i j ≤ 1000000 := by
  intro i
  induction i with
  | zero =>
    intro j
    show (if j = node then r else 1000000) ≤ 1000000
    split <;> omega
  | succ i ih => exact cn_rd_le ih n
/-- three nodes' times, all others never -/
def cn_tr (q : cn_Q) (ra rv rb : Nat) (j : Nat) : Nat := if j = cn_a q then ra else if j = cn_v q then rv else if j = cn_b q then rb else 1000000
theorem cn_tr_a {q : cn_Q} {ra rv rb : Nat} : cn_tr q ra rv rb (cn_a q) = ra := if_pos rfl
theorem cn_tr_v {q : cn_Q} (h : cn_ok q) {ra rv rb : Nat} : cn_tr q ra rv rb (cn_v q) = rv := by
  obtain ⟨_, _, _, h1, h2, h3, _⟩ := h
  unfold cn_tr
  rw [if_neg (fun e => h1 e.symm), if_pos rfl]
theorem cn_tr_b {q : cn_Q} (h : cn_ok q) {ra rv rb : Nat} : cn_tr q ra rv rb (cn_b q) = rb := by
  obtain ⟨_, _, _, h1, h2, h3, _⟩ := h
  unfold cn_tr
  rw [if_neg (fun e => h2 e.symm), if_neg (fun e => h3 e.symm), if_pos rfl]
/-- the best of the contacts 2, 3, .. below n -/
def cn_dd (c : Nat → Nat → Nat) (x : Nat) : Nat → Nat
  | 0 => 1000000
  | k + 1 => if 2 ≤ k then min (cn_dd c x k) (c k x) else cn_dd c x k
theorem cn_dd_le {c : Nat → Nat → Nat} {x : Nat} : ∀ n, cn_dd c x n ≤ 1000000 := by
  intro n
  induction n with
  | zero => exact Nat.le_refl _
  | succ k ih =>
    show (if 2 ≤ k then min (cn_dd c x k) (c k x) else cn_dd c x k) ≤ 1000000
    split <;> omega
theorem cn_dd_N {c : Nat → Nat → Nat} (hN : ∀ k, c k 1000000 = 1000000) : ∀ n, cn_dd c 1000000 n = 1000000 := by
  intro n
  induction n with
  | zero => rfl
  | succ k ih =>
    show (if 2 ≤ k then min (cn_dd c 1000000 k) (c k 1000000) else cn_dd c 1000000 k) = 1000000
    rw [ih, hN]
    split <;> rfl
theorem cn_rd_tr {q : cn_Q} (h : cn_ok q) {c : Nat → Nat → Nat} {ra rv rb : Nat} : ∀ k, cn_rd q c (cn_tr q ra rv rb) k = cn_tr q ra (if 1 < k then min rv (c 1 ra) else rv) (min (if 0 < k then min rb (c 0 ra) else rb) (min rb (cn_dd c rv k))) ∨ 1000000 < rb := by
  intro k
  rcases Nat.lt_or_ge 1000000 rb with hb | hb
  · exact Or.inr hb
  refine Or.inl ?_
  have hok := h
  obtain ⟨_, _, _, h1, h2, h3, _⟩ := h
  induction k with
  | zero =>
    funext j
    show cn_tr q ra rv rb j = cn_tr q ra rv (min rb (min rb 1000000)) j
    rw [show min rb (min rb 1000000) = rb by omega]
  | succ k ih =>
    funext j
    show (if j = cn_to q k then min (cn_rd q c (cn_tr q ra rv rb) k j) (c k (cn_tr q ra rv rb (cn_fr q k))) else cn_rd q c (cn_tr q ra rv rb) k j) = _
    rw [ih]
    rcases Nat.lt_or_ge k 2 with hk | hk
    · have hf : cn_fr q k = cn_a q := if_pos hk
      rw [hf, cn_tr_a]
      have hd : cn_dd c rv (k + 1) = cn_dd c rv k := if_neg (by omega)
      rw [hd]
      rcases (show k = 0 ∨ k = 1 by omega) with e | e
      · subst e
        have ht : cn_to q 0 = cn_b q := rfl
        rw [ht]
        by_cases ej : j = cn_b q
        · rw [ej, if_pos rfl, cn_tr_b hok, cn_tr_b hok]
          show min (min rb (min rb 1000000)) (c 0 ra) = min (min rb (c 0 ra)) (min rb 1000000)
          omega
        · rw [if_neg ej]
          show cn_tr q ra rv _ j = cn_tr q ra rv _ j
          unfold cn_tr
          rw [if_neg ej, if_neg ej]
      · subst e
        have ht : cn_to q 1 = cn_v q := rfl
        rw [ht]
        by_cases ej : j = cn_v q
        · rw [ej, if_pos rfl, cn_tr_v hok, cn_tr_v hok]
          rfl
        · rw [if_neg ej]
          show cn_tr q ra rv _ j = cn_tr q ra _ _ j
          unfold cn_tr
          rw [if_neg ej, if_neg ej]
          rfl
    · have hf : cn_fr q k = cn_v q := if_neg (by omega)
      have ht : cn_to q k = cn_b q := if_neg (by omega)
      rw [hf, ht, cn_tr_v hok]
      have hd : cn_dd c rv (k + 1) = min (cn_dd c rv k) (c k rv) := if_pos hk
      rw [hd, if_pos (show 1 < k by omega), if_pos (show 0 < k by omega), if_pos (show 1 < k + 1 by omega), if_pos (show 0 < k + 1 by omega)]
      by_cases ej : j = cn_b q
      · rw [ej, if_pos rfl, cn_tr_b hok, cn_tr_b hok]
        omega
      · rw [if_neg ej]
        unfold cn_tr
        rw [if_neg ej, if_neg ej]
/-- from a: over one contact, over more -/
theorem cn_sp_a1 {q : cn_Q} (h : cn_ok q) {c : Nat → Nat → Nat} (hN : ∀ k, c k 1000000 = 1000000) (hc : ∀ k r, c k r ≤ 1000000) {n r : Nat} (hn : 0 < n) : cn_sp q c n (cn_a q) r 1 = cn_tr q r (if 1 < n then c 1 r else 1000000) (c 0 r) := by
  have e0 : cn_sp q c n (cn_a q) r 0 = cn_tr q r 1000000 1000000 := by
    funext j
    show (if j = cn_a q then r else 1000000) = _
    unfold cn_tr
    by_cases ej : j = cn_a q
    · rw [if_pos ej, if_pos ej]
    · rw [if_neg ej, if_neg ej]
      repeat' split
      all_goals rfl
  show cn_rd q c (cn_sp q c n (cn_a q) r 0) n = _
  rw [e0]
  rcases cn_rd_tr h (c := c) (ra := r) (rv := 1000000) (rb := 1000000) n with e | e
  · rw [e, cn_dd_N hN, if_pos hn]
    have h0 := hc 0 r
    have h1 := hc 1 r
    rw [show min 1000000 (c 1 r) = c 1 r by omega, show min (min 1000000 (c 0 r)) (min 1000000 1000000) = c 0 r by omega]
  · omega
theorem cn_sp_a2 {q : cn_Q} (h : cn_ok q) {c : Nat → Nat → Nat} (hN : ∀ k, c k 1000000 = 1000000) (hc : ∀ k r, c k r ≤ 1000000) {n r x : Nat} (hn : 0 < n) (hx : x = if 1 < n then c 1 r else 1000000) : ∀ i, cn_sp q c n (cn_a q) r (i + 2) = cn_tr q r x (min (c 0 r) (cn_dd c x n)) := by
  intro i
  have hx' : x ≤ 1000000 := by
    rw [hx]
    have := hc 1 r
    split <;> omega
  have h0 := hc 0 r
  have hd := cn_dd_le (c := c) (x := x) n
  induction i with
  | zero =>
    show cn_rd q c (cn_sp q c n (cn_a q) r 1) n = _
    rw [cn_sp_a1 h hN hc hn, ← hx]
    rcases cn_rd_tr h (c := c) (ra := r) (rv := x) (rb := c 0 r) n with e | e
    · rw [e, if_pos hn]
      have e1 : (if 1 < n then min x (c 1 r) else x) = x := by
        by_cases hn1 : 1 < n
        · rw [if_pos hn1]
          rw [if_pos hn1] at hx
          omega
        · rw [if_neg hn1]
      rw [e1, show min (min (c 0 r) (c 0 r)) (min (c 0 r) (cn_dd c x n)) = min (c 0 r) (cn_dd c x n) by omega]
    · omega
  | succ i ih =>
    show cn_rd q c (cn_sp q c n (cn_a q) r (i + 2)) n = _
    rw [ih]
    rcases cn_rd_tr h (c := c) (ra := r) (rv := x) (rb := min (c 0 r) (cn_dd c x n)) n with e | e
    · rw [e, if_pos hn]
      have e1 : (if 1 < n then min x (c 1 r) else x) = x := by
        by_cases hn1 : 1 < n
        · rw [if_pos hn1]
          rw [if_pos hn1] at hx
          omega
        · rw [if_neg hn1]
      rw [e1, show min (min (min (c 0 r) (cn_dd c x n)) (c 0 r)) (min (min (c 0 r) (cn_dd c x n)) (cn_dd c x n)) = min (c 0 r) (cn_dd c x n) by omega]
    · omega
theorem cn_sp_v {q : cn_Q} (h : cn_ok q) {c : Nat → Nat → Nat} (hN : ∀ k, c k 1000000 = 1000000) {n r : Nat} (hn : 1 < n) : ∀ i, cn_sp q c n (cn_v q) r (i + 1) = cn_tr q 1000000 (min r 1000000) (cn_dd c r n) ∨ 1000000 < r := by
  intro i
  rcases Nat.lt_or_ge 1000000 r with hr | hr
  · exact Or.inr hr
  refine Or.inl ?_
  have hd := cn_dd_le (c := c) (x := r) n
  rw [show min r 1000000 = r by omega]
  have e0 : cn_sp q c n (cn_v q) r 0 = cn_tr q 1000000 r 1000000 := by
    have hok := h
    obtain ⟨_, _, _, h1, h2, h3, _⟩ := h
    funext j
    show (if j = cn_v q then r else 1000000) = _
    by_cases ej : j = cn_v q
    · rw [if_pos ej, ej, cn_tr_v hok]
    · rw [if_neg ej]
      unfold cn_tr
      rw [if_neg ej]
      repeat' split
      all_goals rfl
  induction i with
  | zero =>
    show cn_rd q c (cn_sp q c n (cn_v q) r 0) n = _
    rw [e0]
    rcases cn_rd_tr h (c := c) (ra := 1000000) (rv := r) (rb := 1000000) n with e | e
    · rw [e, hN, hN, if_pos hn, if_pos (by omega), show min r 1000000 = r by omega, show min (min 1000000 1000000) (min 1000000 (cn_dd c r n)) = cn_dd c r n by omega]
    · omega
  | succ i ih =>
    show cn_rd q c (cn_sp q c n (cn_v q) r (i + 1)) n = _
    rw [ih]
    rcases cn_rd_tr h (c := c) (ra := 1000000) (rv := r) (rb := cn_dd c r n) n with e | e
    · rw [e, hN, hN, if_pos hn, if_pos (by omega), show min r 1000000 = r by omega, show min (min (cn_dd c r n) 1000000) (min (cn_dd c r n) (cn_dd c r n)) = cn_dd c r n by omega]
    · omega
end
section
theorem cn_at {f : Nat → Int32} {k : Nat} {x y : Int32} (h : f k = y) (hx : x = nI k := by rfl) (hk : k < 2 ^ 31 := by omega) : f x.toNatClampNeg = y := by
  subst hx
  rw [nI_clamp hk]
  exact h
theorem cn_ix (k t : Nat) : (101 * nI k) + nI t = nI (101 * k + t) := by
  rw [show (101 : Int32) = nI 101 from rfl, pk_mul, nI_add]
theorem cn_iy (k t : Nat) : (100 * nI k) + nI t = nI (100 * k + t) := by
  rw [show (100 : Int32) = nI 100 from rfl, pk_mul, nI_add]
theorem cn_pr {n : Nat} (h : 1 ≤ n) : nI n - 1 = nI (n - 1) := by
  obtain ⟨m, rfl⟩ : ∃ m, n = m + 1 := ⟨n - 1, by omega⟩
  exact nI_pred m
theorem cn_i0 {x : Bool} (h : x = false) : cn_i x = 0 := by rw [h]; rfl
theorem cn_i1 {x : Bool} (h : x = true) : ¬ cn_i x = 0 := by rw [h]; decide
/-- what the contacts' arrays hold -/
def cn_A (q : cn_Q) (n : Nat) (C : Nat → Bool) (B : Nat → Nat → Prop) (a1 a2 a3 a4 a5 a6 a7 a8 : Nat → Int32) : Prop :=
  n ≤ 5 ∧ (∀ k, k < 5 → a1 k = cn_i (C k)) ∧ (∀ k, k < n → a2 k = nI (cn_fr q k) ∧ a3 k = nI (cn_to q k) ∧ a4 k = nI (cn_S q k) ∧ a5 k = nI (cn_E q k) ∧ a6 k = nI (cn_R k) ∧ a7 k = nI (cn_D k)) ∧ (∀ k t, k < 5 → t < 101 → (a8 (101 * k + t) = 0 ∧ ¬ B k t) ∨ (a8 (101 * k + t) = 1 ∧ B k t))
theorem cn_tf {post : Int32 → Prop} {fc fb fn fr : Int32} {a1 a2 a3 a4 a5 a6 a7 a8 a9 a10 a11 a12 a13 a14 a15 a16 a17 a18 a19 a20 a21 : Nat → Int32} {k z r : Nat} {x0 x1 : Int32} (hk : k < 10) (h6 : a6 k = nI r) (hr : 1 ≤ r ∧ r ≤ 9) (hz : z ≤ 30) (H : post (nI ((z + r - 1) / r))) (e0 : x0 = nI k := by rfl) (e1 : x1 = nI z := by rfl) : wpX_ticksFor post (fc, fb, fn, fr, a1, a2, a3, a4, a5, a6, a7, a8, a9, a10, a11, a12, a13, a14, a15, a16, a17, a18, a19, a20, a21) x0 x1 := by
  subst e0 e1
  refine And.intro (pk_in k 10 hk) (And.intro (pk_in k 10 hk) ?_)
  rw [nI_clamp (by omega), h6]
  refine And.intro (nI_ne0 (by omega) (by omega)) ?_
  rw [nI_add, cn_pr (by omega), pk_div (by omega) (by omega) (by omega)]
  exact H
theorem cn_fb29 {post : Int32 → Prop} {fc fb fn fr : Int32} {a1 a2 a3 a4 a5 a6 a7 a8 a9 a10 a11 a12 a13 a14 a15 a16 a17 a18 a19 a20 a21 : Nat → Int32} {k tk e : Nat} {B : Nat → Prop} (hk : k < 10) (he : e ≤ 100) (h5 : a5 k = nI e) (h8 : ∀ t, t < 101 → (a8 (101 * k + t) = 0 ∧ ¬ B t) ∨ (a8 (101 * k + t) = 1 ∧ B t)) (htk : tk ≤ 1000) : ∀ f x t, x ≤ t → t ≤ 2000000 → f = e - t → post ((cn_fb B tk f x t).elim (-1) nI) → wX_firstBegin_29 post (nI k) (nI tk) fc fb fn fr a1 a2 a3 a4 a5 a6 a7 a8 a9 a10 a11 a12 a13 a14 a15 a16 a17 a18 a19 a20 a21 (f + 1) (nI x) (nI t) := by
  intro f
  induction f with
  | zero =>
    intro x t hx ht hf hp
    exact And.intro (pk_in k 10 hk) (pk_le e t (fun _ => hp) (fun z => absurd z (by omega)) (cn_at h5))
  | succ f ih =>
    intro x t hx ht hf hp
    refine And.intro (pk_in k 10 hk) (pk_le e t (fun z => absurd z (by omega)) (fun z => ?_) (cn_at h5))
    refine And.intro (pk_in (101 * k + t) 1010 (by omega) (cn_ix k t)) ?_
    rw [cn_fb_s] at hp
    rcases h8 t (by omega) with ⟨h, hb⟩ | ⟨h, hb⟩
    · rw [if_neg hb] at hp
      refine br_t (cn_at h (cn_ix k t)) (pk_eq (x + 1) tk (fun e1 => ?_) (fun e1 => nm_r (nI_1 t) ?_) (nI_1 x))
      · rw [if_pos e1] at hp
        have e2 : nI t - nI tk + 1 = nI (t + 1 - tk) := by
          have e3 : nI (t + 1 - tk) + nI tk = nI t + 1 := by
            rw [nI_add, show t + 1 - tk + tk = t + 1 by omega, nI_1]
          grind
        rw [e2]
        exact hp
      · rw [if_neg e1] at hp
        rw [nI_1 x]
        exact ih (x + 1) (t + 1) (by omega) (by omega) (by omega) hp
    · rw [if_pos hb] at hp
      refine br_f (by rw [cn_at h (cn_ix k t)]; decide) (pk_eq 0 tk (fun e1 => ?_) (fun e1 => nm_r (nI_1 t) ?_))
      · rw [if_pos e1] at hp
        have e2 : nI t - nI tk + 1 = nI (t + 1 - tk) := by
          rw [← e1]
          have e3 : nI (t + 1 - 0) = nI t + 1 := nI_succ t
          rw [e3, nI_0]
          grind
        rw [e2]
        exact hp
      · rw [if_neg e1] at hp
        exact ih 0 (t + 1) (by omega) (by omega) (by omega) hp
theorem cn_fbw {post : Int32 → Prop} {fc fb fn fr : Int32} {a1 a2 a3 a4 a5 a6 a7 a8 a9 a10 a11 a12 a13 a14 a15 a16 a17 a18 a19 a20 a21 : Nat → Int32} {k tk s e r : Nat} {B : Nat → Prop} {x0 x1 x2 : Int32} (hk : k < 10) (hs : s ≤ 100) (he : e ≤ 100) (h4 : a4 k = nI s) (h5 : a5 k = nI e) (h8 : ∀ t, t < 101 → (a8 (101 * k + t) = 0 ∧ ¬ B t) ∨ (a8 (101 * k + t) = 1 ∧ B t)) (htk : tk ≤ 1000) (hr : r ≤ 1000000) (H : post ((cn_fb B tk (e - max r s) 0 (max r s)).elim (-1) nI)) (e0 : x0 = nI k := by rfl) (e1 : x1 = nI r := by rfl) (e2 : x2 = nI tk := by rfl) : wpX_firstBegin post (fc, fb, fn, fr, a1, a2, a3, a4, a5, a6, a7, a8, a9, a10, a11, a12, a13, a14, a15, a16, a17, a18, a19, a20, a21) x0 x1 x2 := by
  subst e0 e1 e2
  refine And.intro (pk_in k 10 hk) (pk_le r s (fun h => And.intro (pk_in k 10 hk) (nm_r (cn_at h4) ⟨e - s + 1, ?_⟩)) (fun h => ⟨e - r + 1, ?_⟩) rfl (cn_at h4))
  · rw [show max r s = s by omega] at H
    exact cn_fb29 hk he h5 h8 htk (e - s) 0 s (by omega) (by omega) rfl H
  · rw [show max r s = r by omega] at H
    exact cn_fb29 hk he h5 h8 htk (e - r) 0 r (by omega) (by omega) rfl H
theorem cn_cin {post : Int32 → Prop} {fc fb fn fr : Int32} {a1 a2 a3 a4 a5 a6 a7 a8 a9 a10 a11 a12 a13 a14 a15 a16 a17 a18 a19 a20 a21 : Nat → Int32} {q : cn_Q} {n : Nat} {C : Nat → Bool} {B : Nat → Nat → Prop} {k r z : Nat} {x0 x1 x2 : Int32} (hq : cn_ok q) (hA : cn_A q n C B a1 a2 a3 a4 a5 a6 a7 a8) (hk : k < n) (hr : r ≤ 1000000) (hz : 1 ≤ z ∧ z ≤ 30) (H : post (nI (cn_c q C B z k r))) (e0 : x0 = nI k := by rfl) (e1 : x1 = nI r := by rfl) (e2 : x2 = nI z := by rfl) : wpX_comingIn post (fc, fb, fn, fr, a1, a2, a3, a4, a5, a6, a7, a8, a9, a10, a11, a12, a13, a14, a15, a16, a17, a18, a19, a20, a21) x0 x1 x2 := by
  subst e0 e1 e2
  obtain ⟨hn, h1, hx, h8⟩ := hA
  obtain ⟨h2, h3, h4, h5, h6, h7⟩ := hx k hk
  have ht := cn_t30 (k := k) hz.1 hz.2
  have hE := cn_E99 hq k
  have hS := cn_S99 hq k
  refine And.intro (pk_in k 10 (by omega)) ?_
  unfold cn_c cn_ci at H
  cases hc : C k with
  | true =>
    rw [hc, if_pos (Or.inl rfl)] at H
    exact br_f (by rw [cn_at (h1 k (by omega))]; exact cn_i1 hc) H
  | false =>
    rw [hc] at H
    refine br_t (by rw [cn_at (h1 k (by omega))]; exact cn_i0 hc) (pk_lt r 1000000 (fun hr' => ?_) (fun hr' => ?_))
    · rw [if_neg (fun z => z.elim (fun e => nomatch e) (fun e => absurd e (by omega)))] at H
      refine cn_tf (by omega) h6 (cn_R9 k) hz.2 (cn_fbw (B := B k) (tk := cn_t k z) (by omega) (by omega) (by omega) h4 h5 (fun t ht => h8 k t (by omega) ht) (by omega) hr ?_)
      rcases hf : cn_fb (B k) (cn_t k z) (cn_E q k - max r (cn_S q k)) 0 (max r (cn_S q k)) with _ | g
      · rw [hf] at H
        exact br_f (by decide) H
      · rw [hf] at H
        have hg := cn_fb_ge (bg := max r (cn_S q k)) _ _ _ hf (by omega)
        refine pk_le 0 g (fun _ => And.intro (pk_in k 10 (by omega)) ?_) (fun z => absurd z (by omega)) rfl rfl (by omega) (by omega)
        have e3 : nI g + nI ((z + cn_R k - 1) / cn_R k) + a7 (nI k).toNatClampNeg = nI (g + cn_t k z + cn_D k) := by
          rw [cn_at h7, nI_add, nI_add]
          rfl
        show post (nI g + nI ((z + cn_R k - 1) / cn_R k) + a7 (nI k).toNatClampNeg)
        rw [e3]
        exact H
    · rw [if_pos (Or.inr hr')] at H
      exact H
theorem cn_up {x : Nat → Int32} {p y : Int32} {t : Nat} {F F' : Nat → Nat} (h : ∀ j, j < 6 → x j = nI (F j)) (hp : p.toNatClampNeg = t) (hy : y = nI (F' t)) (hF : ∀ j, j ≠ t → F' j = F j) : ∀ j, j < 6 → upd x p.toNatClampNeg y j = nI (F' j) := by
  intro j hj
  rw [hp]
  by_cases e : j = t
  · rw [e, pk_us, hy]
  · rw [pk_un e, h j hj, hF j e]
theorem cn_s78 {post : St2 → Prop} {J : _} {fb fn fr : Int32} {a1 a2 a3 a4 a5 a6 a7 a8 a9 a10 a11 a12 a13 a14 a15 a16 a17 a18 a19 a21 : Nat → Int32} {x4 x5 : Int32} {q : cn_Q} {n : Nat} {C : Nat → Bool} {B : Nat → Nat → Prop} {z : Nat} {E : Nat → Nat} (hq : cn_ok q) (hA : cn_A q n C B a1 a2 a3 a4 a5 a6 a7 a8) (hz : 1 ≤ z ∧ z ≤ 30) (hE : ∀ j, E j ≤ 1000000) (h21 : ∀ j, j < 6 → a21 j = nI (E j)) (H : ∀ x20, (∀ j, j < 6 → x20 j = nI (cn_rd q (cn_c q C B z) E n j)) → J (x5 + 1) a1 a2 a3 a4 a5 a6 a7 a8 a9 a10 a11 a12 a13 a14 a15 a16 a17 a18 a19 x20 a21) : ∀ f k x20, k ≤ n → f = n - k → (∀ j, j < 6 → x20 j = nI (cn_rd q (cn_c q C B z) E k j)) → wX_spread_78 post J (nI z) x4 x5 (nI n) fb fn fr (f + 1) (nI k) a1 a2 a3 a4 a5 a6 a7 a8 a9 a10 a11 a12 a13 a14 a15 a16 a17 a18 a19 x20 a21 := by
  have hn := hA.1
  intro f
  induction f with
  | zero =>
    intro k x20 hk hf h20
    have e : k = n := by omega
    subst e
    exact pk_le k k (fun _ => nm_e (H x20 h20)) (fun z => absurd z (by omega))
  | succ f ih =>
    intro k x20 hk hf h20
    have hx := hA.2.2.1 k (by omega)
    have e2 : a2 (nI k).toNatClampNeg = nI (cn_fr q k) := cn_at hx.1
    have e3 : a3 (nI k).toNatClampNeg = nI (cn_to q k) := cn_at hx.2.1
    have f6 := cn_fr6 hq k
    have t6 := cn_to6 hq k
    have e21 : a21 (a2 (nI k).toNatClampNeg).toNatClampNeg = nI (E (cn_fr q k)) := cn_at (h21 _ f6) e2
    have c3 : (a3 (nI k).toNatClampNeg).toNatClampNeg = cn_to q k := by rw [e3]; exact nI_clamp (by omega)
    have e20 : x20 (a3 (nI k).toNatClampNeg).toNatClampNeg = nI (cn_rd q (cn_c q C B z) E k (cn_to q k)) := cn_at (h20 _ t6) e3
    have b1 := cn_rd_le (q := q) (c := cn_c q C B z) hE k (cn_to q k)
    have b2 := cn_c_le hq (C := C) (B := B) (z := z) (k := k) (r := E (cn_fr q k))
    have i10 : vp_in (nI k) 10 := pk_in k 10 (by omega)
    have i6 : vp_in (a3 (nI k).toNatClampNeg) 6 := pk_in (cn_to q k) 6 t6 e3
    have hs : ∀ j, j ≠ cn_to q k → cn_rd q (cn_c q C B z) E (k + 1) j = cn_rd q (cn_c q C B z) E k j := fun j hj => if_neg hj
    have hv : cn_rd q (cn_c q C B z) E (k + 1) (cn_to q k) = min (cn_rd q (cn_c q C B z) E k (cn_to q k)) (cn_c q C B z k (E (cn_fr q k))) := if_pos rfl
    refine pk_le n k (fun z => absurd z (by omega)) (fun _ => And.intro i10 (And.intro (pk_in (cn_fr q k) 6 f6 e2) ?_))
    refine cn_cin hq hA (by omega) (hE (cn_fr q k)) hz ?_ rfl e21 rfl
    refine And.intro i10 (And.intro i10 (And.intro i6 ?_))
    refine pk_le (cn_rd q (cn_c q C B z) E k (cn_to q k)) (cn_c q C B z k (E (cn_fr q k))) (fun hle => ?_) (fun hlt => ?_) e20 rfl
    · refine And.intro i10 (And.intro i6 (And.intro i6 (nm_e (nm_r (nI_1 k) ?_))))
      exact ih (k + 1) _ (by omega) (by omega) (cn_up h20 c3 (by rw [e20, hv, show min (cn_rd q (cn_c q C B z) E k (cn_to q k)) (cn_c q C B z k (E (cn_fr q k))) = cn_rd q (cn_c q C B z) E k (cn_to q k) by omega]) hs)
    · refine And.intro i6 (nm_e (nm_r (nI_1 k) ?_))
      exact ih (k + 1) _ (by omega) (by omega) (cn_up h20 c3 (by rw [hv, show min (cn_rd q (cn_c q C B z) E k (cn_to q k)) (cn_c q C B z k (E (cn_fr q k))) = cn_c q C B z k (E (cn_fr q k)) by omega]) hs)
theorem cn_s48 {post : St2 → Prop} {J : _} {fb fn fr : Int32} {a1 a2 a3 a4 a5 a6 a7 a8 a9 a10 a11 a12 a13 a14 a15 a16 a17 a18 a19 a20 : Nat → Int32} {x4 x5 : Int32} {q : cn_Q} {n : Nat} {C : Nat → Bool} {B : Nat → Nat → Prop} {z : Nat} {E : Nat → Nat} (hq : cn_ok q) (hA : cn_A q n C B a1 a2 a3 a4 a5 a6 a7 a8) (hz : 1 ≤ z ∧ z ≤ 30) (hE : ∀ j, E j ≤ 1000000) (h20 : ∀ j, j < 6 → a20 j = nI (E j)) (H : ∀ x20 x21, (∀ j, j < 6 → x20 j = nI (cn_rd q (cn_c q C B z) E n j)) → J (x5 + 1) a1 a2 a3 a4 a5 a6 a7 a8 a9 a10 a11 a12 a13 a14 a15 a16 a17 a18 a19 x20 x21) : ∀ f i x21, i ≤ 6 → f = 6 - i → (∀ j, j < i → x21 j = nI (E j)) → wX_spread_48 post J (nI z) x4 x5 (nI n) fb fn fr (f + 1) (nI i) a1 a2 a3 a4 a5 a6 a7 a8 a9 a10 a11 a12 a13 a14 a15 a16 a17 a18 a19 a20 x21 := by
  intro f
  induction f with
  | zero =>
    intro i x21 hi hf h21
    have e : i = 6 := by omega
    subst e
    exact pk_le 6 6 (fun _ => ⟨_, cn_s78 hq hA hz hE h21 (fun x20 hx => H x20 x21 hx) n 0 a20 (by omega) (by omega) h20⟩) (fun z => absurd z (by omega))
  | succ f ih =>
    intro i x21 hi hf h21
    refine pk_le 6 i (fun z => absurd z (by omega)) (fun _ => And.intro (pk_in i 6 (by omega)) (And.intro (pk_in i 6 (by omega)) (nm_e (nm_r (nI_1 i) ?_))))
    refine ih (i + 1) _ (by omega) (by omega) (fun j hj => ?_)
    rw [nI_clamp (by omega)]
    by_cases e : j = i
    · rw [e, pk_us, h20 i (by omega)]
    · rw [pk_un e, h21 j (by omega)]
theorem cn_s38 {post : St2 → Prop} {fb fn fr : Int32} {a1 a2 a3 a4 a5 a6 a7 a8 a9 a10 a11 a12 a13 a14 a15 a16 a17 a18 a19 : Nat → Int32} {q : cn_Q} {n : Nat} {C : Nat → Bool} {B : Nat → Nat → Prop} {z node r mo : Nat} (hq : cn_ok q) (hA : cn_A q n C B a1 a2 a3 a4 a5 a6 a7 a8) (hz : 1 ≤ z ∧ z ≤ 30) (hr : r ≤ 1000000) (hmo : mo ≤ 5) (H : ∀ x20 x21, (∀ j, j < 6 → x20 j = nI (cn_sp q (cn_c q C B z) n node r mo j)) → post (nI n, fb, fn, fr, a1, a2, a3, a4, a5, a6, a7, a8, a9, a10, a11, a12, a13, a14, a15, a16, a17, a18, a19, x20, x21)) : ∀ f i x20 x21, i ≤ mo → f = mo - i → (∀ j, j < 6 → x20 j = nI (cn_sp q (cn_c q C B z) n node r i j)) → wX_spread_38 post (nI z) (nI mo) (nI n) fb fn fr (f + 1) (nI i) a1 a2 a3 a4 a5 a6 a7 a8 a9 a10 a11 a12 a13 a14 a15 a16 a17 a18 a19 x20 x21 := by
  intro f
  induction f with
  | zero =>
    intro i x20 x21 hi hf h20
    have e : i = mo := by omega
    subst e
    exact pk_le i i (fun _ => H x20 x21 h20) (fun z => absurd z (by omega))
  | succ f ih =>
    intro i x20 x21 hi hf h20
    refine pk_le mo i (fun z => absurd z (by omega)) (fun _ => ⟨_, cn_s48 hq hA hz (cn_sp_le hr i) h20 (fun y20 y21 hy => ?_) 6 0 x21 (by omega) (by omega) (fun j hj => absurd hj (by omega))⟩)
    rw [nI_1 i]
    exact ih (i + 1) y20 y21 (by omega) (by omega) hy
theorem cn_s3 {post : St2 → Prop} {fb fn fr : Int32} {a1 a2 a3 a4 a5 a6 a7 a8 a9 a10 a11 a12 a13 a14 a15 a16 a17 a18 a19 a21 : Nat → Int32} {q : cn_Q} {n : Nat} {C : Nat → Bool} {B : Nat → Nat → Prop} {z node r mo : Nat} (hq : cn_ok q) (hA : cn_A q n C B a1 a2 a3 a4 a5 a6 a7 a8) (hz : 1 ≤ z ∧ z ≤ 30) (hnode : node < 6) (hr : r ≤ 1000000) (hmo : mo ≤ 5) (H : ∀ x20 x21, (∀ j, j < 6 → x20 j = nI (cn_sp q (cn_c q C B z) n node r mo j)) → post (nI n, fb, fn, fr, a1, a2, a3, a4, a5, a6, a7, a8, a9, a10, a11, a12, a13, a14, a15, a16, a17, a18, a19, x20, x21)) : ∀ f i x20, i ≤ 6 → f = 6 - i → (∀ j, j < i → x20 j = nI (if j = node then r else 1000000)) → wX_spread_3 post (nI node) (nI r) (nI z) (nI mo) (nI n) fb fn fr (f + 1) (nI i) a1 a2 a3 a4 a5 a6 a7 a8 a9 a10 a11 a12 a13 a14 a15 a16 a17 a18 a19 x20 a21 := by
  intro f
  induction f with
  | zero =>
    intro i x20 hi hf h20
    have e : i = 6 := by omega
    subst e
    exact pk_le 6 6 (fun _ => ⟨_, cn_s38 hq hA hz hr hmo H mo 0 x20 a21 (by omega) (by omega) h20⟩) (fun z => absurd z (by omega))
  | succ f ih =>
    intro i x20 hi hf h20
    refine pk_le 6 i (fun z => absurd z (by omega)) (fun _ => pk_eq i node (fun e => ?_) (fun e => ?_))
    · refine And.intro (pk_in i 6 (by omega)) (nm_e (nm_r (nI_1 i) (ih (i + 1) _ (by omega) (by omega) (fun j hj => ?_))))
      rw [nI_clamp (by omega)]
      by_cases ej : j = i
      · rw [ej, pk_us, if_pos e]
      · rw [pk_un ej, h20 j (by omega)]
    · refine And.intro (pk_in i 6 (by omega)) (nm_e (nm_r (nI_1 i) (ih (i + 1) _ (by omega) (by omega) (fun j hj => ?_))))
      rw [nI_clamp (by omega)]
      by_cases ej : j = i
      · rw [ej, pk_us, if_neg e]
        rfl
      · rw [pk_un ej, h20 j (by omega)]
theorem cn_spw {post : St2 → Prop} {fb fn fr : Int32} {a1 a2 a3 a4 a5 a6 a7 a8 a9 a10 a11 a12 a13 a14 a15 a16 a17 a18 a19 a20 a21 : Nat → Int32} {q : cn_Q} {n : Nat} {C : Nat → Bool} {B : Nat → Nat → Prop} {z node r mo : Nat} {x0 x1 x2 x3 : Int32} (hq : cn_ok q) (hA : cn_A q n C B a1 a2 a3 a4 a5 a6 a7 a8) (hz : 1 ≤ z ∧ z ≤ 30) (hnode : node < 6) (hr : r ≤ 1000000) (hmo : mo ≤ 5) (H : ∀ x20 x21, (∀ j, j < 6 → x20 j = nI (cn_sp q (cn_c q C B z) n node r mo j)) → post (nI n, fb, fn, fr, a1, a2, a3, a4, a5, a6, a7, a8, a9, a10, a11, a12, a13, a14, a15, a16, a17, a18, a19, x20, x21)) (e0 : x0 = nI node := by rfl) (e1 : x1 = nI r := by rfl) (e2 : x2 = nI z := by rfl) (e3 : x3 = nI mo := by rfl) : wpX_spread post (nI n, fb, fn, fr, a1, a2, a3, a4, a5, a6, a7, a8, a9, a10, a11, a12, a13, a14, a15, a16, a17, a18, a19, a20, a21) x0 x1 x2 x3 := by
  subst e0 e1 e2 e3
  exact ⟨_, cn_s3 hq hA hz hnode hr hmo H 6 0 a20 (by omega) (by omega) (fun j hj => absurd hj (by omega))⟩
end
section
theorem cn_lead0 {post : Int32 → St2 → Prop} {fb fn fr : Int32} {a1 a2 a3 a4 a5 a6 a7 a8 a9 a10 a11 a12 a13 a14 a15 a16 a17 a18 a19 a20 a21 : Nat → Int32} {q : cn_Q} {n : Nat} {C : Nat → Bool} {B : Nat → Nat → Prop} {k nd r z : Nat} {x0 x1 x2 x3 x4 x5 x6 : Int32} (hq : cn_ok q) (hA : cn_A q n C B a1 a2 a3 a4 a5 a6 a7 a8) (hk : k < n) (hnd : nd < 6) (hr : r ≤ 1000000) (hz : 1 ≤ z ∧ z ≤ 30) (h : cn_fr q k ≠ nd ∨ cn_c q C B z k r = 1000000) (H : post 0 (nI n, fb, fn, fr, a1, a2, a3, a4, a5, a6, a7, a8, a9, a10, a11, a12, a13, a14, a15, a16, a17, a18, a19, a20, a21)) (e0 : x0 = nI k := by rfl) (e1 : x1 = nI nd := by rfl) (e3 : x3 = nI r := by rfl) (e4 : x4 = nI z := by rfl) : wpX_leadsOn post (nI n, fb, fn, fr, a1, a2, a3, a4, a5, a6, a7, a8, a9, a10, a11, a12, a13, a14, a15, a16, a17, a18, a19, a20, a21) x0 x1 x2 x3 x4 x5 x6 := by
  subst e0 e1 e3 e4
  have hn := hA.1
  have f6 := cn_fr6 hq k
  refine And.intro (pk_in k 10 (by omega)) (pk_eq (cn_fr q k) nd (fun e => ?_) (fun _ => H) (cn_at (hA.2.2.1 k hk).1))
  have hc : cn_c q C B z k r = 1000000 := h.resolve_left (fun z => z e)
  refine cn_cin hq hA hk hr hz ?_
  exact pk_lt (cn_c q C B z k r) 1000000 (fun z => absurd z (by omega)) (fun _ => H)
theorem cn_lead1 {post : Int32 → St2 → Prop} {fb fn fr : Int32} {a1 a2 a3 a4 a5 a6 a7 a8 a9 a10 a11 a12 a13 a14 a15 a16 a17 a18 a19 a20 a21 : Nat → Int32} {q : cn_Q} {n : Nat} {C : Nat → Bool} {B : Nat → Nat → Prop} {k r z tg l best : Nat} {x0 x1 x2 x3 x4 x5 x6 : Int32} (hq : cn_ok q) (hA : cn_A q n C B a1 a2 a3 a4 a5 a6 a7 a8) (hk : k < n) (hr : r ≤ 1000000) (hz : 1 ≤ z ∧ z ≤ 30) (hl : l ≤ 5) (htg : tg < 6) (hb : best ≤ 1000000) (hc : cn_c q C B z k r < 1000000) (hs : cn_sp q (cn_c q C B z) n (cn_to q k) (cn_c q C B z k r) l tg ≤ best) (H : ∀ x20 x21, post 1 (nI n, fb, fn, fr, a1, a2, a3, a4, a5, a6, a7, a8, a9, a10, a11, a12, a13, a14, a15, a16, a17, a18, a19, x20, x21)) (e0 : x0 = nI k := by rfl) (e1 : x1 = nI (cn_fr q k) := by rfl) (e2 : x2 = nI tg := by rfl) (e3 : x3 = nI r := by rfl) (e4 : x4 = nI z := by rfl) (e5 : x5 = nI (l + 1) := by rfl) (e6 : x6 = nI best := by rfl) : wpX_leadsOn post (nI n, fb, fn, fr, a1, a2, a3, a4, a5, a6, a7, a8, a9, a10, a11, a12, a13, a14, a15, a16, a17, a18, a19, a20, a21) x0 x1 x2 x3 x4 x5 x6 := by
  subst e0 e1 e2 e3 e4 e5 e6
  have hn := hA.1
  have f6 := cn_fr6 hq k
  have t6 := cn_to6 hq k
  refine And.intro (pk_in k 10 (by omega)) (pk_eq (cn_fr q k) (cn_fr q k) (fun e => ?_) (fun z => absurd rfl z) (cn_at (hA.2.2.1 k hk).1))
  refine cn_cin hq hA hk hr hz ?_
  refine pk_lt (cn_c q C B z k r) 1000000 (fun _ => And.intro (pk_in k 10 (by omega)) ?_) (fun z => absurd z (by omega))
  refine cn_spw hq hA hz t6 (cn_c_le hq) hl (fun x20 x21 h20 => ?_) (cn_at (hA.2.2.1 k hk).2.1) rfl rfl (nI_pred l)
  have hle := cn_sp_le (q := q) (c := cn_c q C B z) (n := n) (node := cn_to q k) (cn_c_le hq (C := C) (B := B) (z := z) (k := k) (r := r)) l tg
  exact And.intro (pk_in tg 6 htg) (pk_lt best (cn_sp q (cn_c q C B z) n (cn_to q k) (cn_c q C B z k r) l tg) (fun z => absurd z (by omega)) (fun _ => H x20 x21) rfl (cn_at (h20 tg htg)))
/-- no contact but the last can serve: the last is taken -/
theorem cn_nxl {post : Int32 → St2 → Prop} {fb fn fr : Int32} {a1 a2 a3 a4 a5 a6 a7 a8 a9 a10 a11 a12 a13 a14 a15 a16 a17 a18 a19 a20 a21 : Nat → Int32} {q : cn_Q} {n : Nat} {C : Nat → Bool} {B : Nat → Nat → Prop} {nd r z : Nat} {x2 x5 x6 : Int32} (hq : cn_ok q) (hA : cn_A q n C B a1 a2 a3 a4 a5 a6 a7 a8) (h0 : 0 < n) (hnd : nd < 6) (hr : r ≤ 1000000) (hz : 1 ≤ z ∧ z ≤ 30) (h : ∀ k, k + 1 < n → cn_fr q k ≠ nd ∨ cn_c q C B z k r = 1000000) (H : post (nI (n - 1)) (nI n, fb, fn, fr, a1, a2, a3, a4, a5, a6, a7, a8, a9, a10, a11, a12, a13, a14, a15, a16, a17, a18, a19, a20, a21)) : wpX_nextContact post (nI n, fb, fn, fr, a1, a2, a3, a4, a5, a6, a7, a8, a9, a10, a11, a12, a13, a14, a15, a16, a17, a18, a19, a20, a21) (nI nd) x2 (nI r) (nI z) x5 x6 := by
  have hn := hA.1
  have main : ∀ f k, k + 1 ≤ n → f = n - 1 - k → wX_nextContact_3 post (nI nd) x2 (nI r) (nI z) x5 x6 (f + 1) (nI k) (nI n) fb fn fr a1 a2 a3 a4 a5 a6 a7 a8 a9 a10 a11 a12 a13 a14 a15 a16 a17 a18 a19 a20 a21 := by
    intro f
    induction f with
    | zero =>
      intro k hk hf
      have e : k = n - 1 := by omega
      subst e
      exact pk_le (n - 1) (n - 1) (fun _ => H) (fun z => absurd z (by omega)) (cn_pr (by omega))
    | succ f ih =>
      intro k hk hf
      refine pk_le (n - 1) k (fun z => absurd z (by omega)) (fun _ => ?_) (cn_pr (by omega))
      refine cn_lead0 hq hA (by omega) hnd hr hz (h k (by omega)) ?_
      exact br_t rfl (nm_r (nI_1 k) (ih (k + 1) (by omega) (by omega)))
  exact ⟨_, main (n - 1) 0 (by omega) (by omega)⟩
/-- contact 0 can't serve, contact 1 can -/
theorem cn_nx1 {post : Int32 → St2 → Prop} {fb fn fr : Int32} {a1 a2 a3 a4 a5 a6 a7 a8 a9 a10 a11 a12 a13 a14 a15 a16 a17 a18 a19 a20 a21 : Nat → Int32} {q : cn_Q} {n : Nat} {C : Nat → Bool} {B : Nat → Nat → Prop} {r z tg best : Nat} (hq : cn_ok q) (hA : cn_A q n C B a1 a2 a3 a4 a5 a6 a7 a8) (h0 : 2 < n) (htg : tg < 6) (hr : r ≤ 1000000) (hz : 1 ≤ z ∧ z ≤ 30) (hb : best ≤ 1000000) (h : cn_c q C B z 0 r = 1000000) (hc : cn_c q C B z 1 r < 1000000) (hs : cn_sp q (cn_c q C B z) n (cn_v q) (cn_c q C B z 1 r) 1 tg ≤ best) (H : ∀ x20 x21, post (nI 1) (nI n, fb, fn, fr, a1, a2, a3, a4, a5, a6, a7, a8, a9, a10, a11, a12, a13, a14, a15, a16, a17, a18, a19, x20, x21)) : wpX_nextContact post (nI n, fb, fn, fr, a1, a2, a3, a4, a5, a6, a7, a8, a9, a10, a11, a12, a13, a14, a15, a16, a17, a18, a19, a20, a21) (nI (cn_a q)) (nI tg) (nI r) (nI z) (nI 2) (nI best) := by
  have hn := hA.1
  refine ⟨2, pk_le (n - 1) 0 (fun z => absurd z (by omega)) (fun _ => ?_) (cn_pr (by omega))⟩
  refine cn_lead0 hq hA (by omega) hq.1 hr hz (Or.inr h) (br_t rfl (nm_r (nI_1 0) ?_))
  refine pk_le (n - 1) 1 (fun z => absurd z (by omega)) (fun _ => ?_) (cn_pr (by omega))
  refine cn_lead1 (k := 1) (l := 1) hq hA (by omega) hr hz (by omega) htg hb hc hs (fun x20 x21 => ?_)
  exact br_f (by decide) (H x20 x21)
/-- one hop of a route that is found -/
theorem cn_88s {post : Int32 → St2 → Prop} {fb fn : Int32} {a1 a2 a3 a4 a5 a6 a7 a8 a9 a10 a11 a12 a13 a14 a15 a16 a17 a18 a19 a20 a21 : Nat → Int32} {q : cn_Q} {n : Nat} {C : Nat → Bool} {B : Nat → Nat → Prop} {nd r z c k l g f : Nat} {x2 x5 : Int32} (hq : cn_ok q) (hA : cn_A q n C B a1 a2 a3 a4 a5 a6 a7 a8) (hk : k < n) (hc : c < 5) (hl : l < 5) (hr : r ≤ 1000000) (hz : 1 ≤ z ∧ z ≤ 30)
    (hfb : cn_fb (B k) (cn_t k z) (cn_E q k - max r (cn_S q k)) 0 (max r (cn_S q k)) = some g)
    (hnx : ∀ post' : Int32 → St2 → Prop, (∀ x20 x21, post' (nI k) (nI n, fb, fn, nI c, a1, a2, a3, a4, a5, a6, a7, a8, a9, a10, a11, a12, a13, a14, a15, a16, a17, a18, a19, x20, x21)) → wpX_nextContact post' (nI n, fb, fn, nI c, a1, a2, a3, a4, a5, a6, a7, a8, a9, a10, a11, a12, a13, a14, a15, a16, a17, a18, a19, a20, a21) (nI nd) x2 (nI r) (nI z) (nI (l + 1)) x5)
    (H : ∀ x20 x21, wX_findRoute_88 post x2 (nI z) x5 f (nI (cn_to q k)) (nI (g + cn_t k z + cn_D k)) (nI l) (nI n) fb fn (nI (c + 1)) a1 a2 a3 a4 a5 a6 a7 a8 a9 a10 a11 a12 a13 a14 a15 a16 a17 (upd a18 c (nI k)) (upd a19 c (nI g)) x20 x21) :
    wX_findRoute_88 post x2 (nI z) x5 (f + 1) (nI nd) (nI r) (nI (l + 1)) (nI n) fb fn (nI c) a1 a2 a3 a4 a5 a6 a7 a8 a9 a10 a11 a12 a13 a14 a15 a16 a17 a18 a19 a20 a21 := by
  obtain ⟨hn, h1, hx, h8⟩ := hA
  obtain ⟨h2, h3, h4, h5, h6, h7⟩ := hx k hk
  have ht := cn_t30 (k := k) hz.1 hz.2
  have hE := cn_E99 hq k
  have hS := cn_S99 hq k
  have cc : (nI c).toNatClampNeg = c := nI_clamp (by omega)
  have ic : vp_in (nI c) 5 := pk_in c 5 hc
  have ik : vp_in (nI k) 10 := pk_in k 10 (by omega)
  refine pk_le (l + 1) 0 (fun z => absurd z (by omega)) (fun _ => hnx _ (fun x20 x21 => ?_))
  refine cn_tf (by omega) h6 (cn_R9 k) hz.2 (And.intro ic (nm_r (e' := upd a18 c (nI k)) (by rw [cc]) ?_))
  refine cn_fbw (B := B k) (tk := cn_t k z) (by omega) (by omega) (by omega) h4 h5 (fun t ht => h8 k t (by omega) ht) (by omega) hr ?_
  rw [hfb]
  refine And.intro ic (nm_r (e' := upd a19 c (nI g)) (by rw [cc]; rfl) (And.intro ic (And.intro ik (nm_r (e' := nI (g + cn_t k z + cn_D k)) ?_ (And.intro ik (nm_r (cn_at h3) (nm_r (nI_1 c) (nm_r (pk_m1 l) (H x20 x21)))))))))
  rw [cc, pk_us, cn_at h7, nI_add, nI_add]
  rfl
/-- no route -/
theorem cn_fr0 {post : Int32 → St2 → Prop} {fb fn fr : Int32} {a1 a2 a3 a4 a5 a6 a7 a8 a9 a10 a11 a12 a13 a14 a15 a16 a17 a18 a19 a20 a21 : Nat → Int32} {q : cn_Q} {n : Nat} {C : Nat → Bool} {B : Nat → Nat → Prop} {nd tg r z : Nat} {x0 x1 x2 x3 : Int32} (hq : cn_ok q) (hA : cn_A q n C B a1 a2 a3 a4 a5 a6 a7 a8) (hnd : nd < 6) (htg : tg < 6) (hr : r ≤ 1000000) (hz : 1 ≤ z ∧ z ≤ 30) (h5 : cn_sp q (cn_c q C B z) n nd r 5 tg = 1000000) (H : ∀ x20 x21, post 1000000 (nI n, fb, fn, fr, a1, a2, a3, a4, a5, a6, a7, a8, a9, a10, a11, a12, a13, a14, a15, a16, a17, a18, a19, x20, x21)) (e0 : x0 = nI nd := by rfl) (e1 : x1 = nI tg := by rfl) (e2 : x2 = nI r := by rfl) (e3 : x3 = nI z := by rfl) : wpX_findRoute post (nI n, fb, fn, fr, a1, a2, a3, a4, a5, a6, a7, a8, a9, a10, a11, a12, a13, a14, a15, a16, a17, a18, a19, a20, a21) x0 x1 x2 x3 := by
  subst e0 e1 e2 e3
  unfold wpX_findRoute
  refine cn_spw (mo := 5) hq hA hz hnd hr (by omega) (fun x20 x21 h20 => ?_)
  refine And.intro (pk_in tg 6 htg) (nm_r (e' := nI 1000000) (by rw [cn_at (h20 tg htg), h5]) ?_)
  exact pk_lt 1000000 1000000 (fun z => absurd z (by omega)) (fun _ => H x20 x21)
/-- a route of one contact, the last one -/
theorem cn_fr1 {post : Int32 → St2 → Prop} {fb fn fr : Int32} {a1 a2 a3 a4 a5 a6 a7 a8 a9 a10 a11 a12 a13 a14 a15 a16 a17 a18 a19 a20 a21 : Nat → Int32} {q : cn_Q} {n : Nat} {C : Nat → Bool} {B : Nat → Nat → Prop} {nd tg r z best k g : Nat} {x0 x1 x2 x3 : Int32} (hq : cn_ok q) (hA : cn_A q n C B a1 a2 a3 a4 a5 a6 a7 a8) (hnd : nd < 6) (htg : tg < 6) (hr : r ≤ 1000000) (hz : 1 ≤ z ∧ z ≤ 30) (hb : best < 1000000) (h5 : cn_sp q (cn_c q C B z) n nd r 5 tg = best) (h1 : cn_sp q (cn_c q C B z) n nd r 1 tg = best) (hk : n = k + 1) (hl : ∀ j, j < k → cn_fr q j ≠ nd ∨ cn_c q C B z j r = 1000000)
    (hfb : cn_fb (B k) (cn_t k z) (cn_E q k - max r (cn_S q k)) 0 (max r (cn_S q k)) = some g)
    (H : ∀ x20 x21, post (nI best) (nI n, fb, fn, nI 1, a1, a2, a3, a4, a5, a6, a7, a8, a9, a10, a11, a12, a13, a14, a15, a16, a17, upd a18 0 (nI k), upd a19 0 (nI g), x20, x21)) (e0 : x0 = nI nd := by rfl) (e1 : x1 = nI tg := by rfl) (e2 : x2 = nI r := by rfl) (e3 : x3 = nI z := by rfl) : wpX_findRoute post (nI n, fb, fn, fr, a1, a2, a3, a4, a5, a6, a7, a8, a9, a10, a11, a12, a13, a14, a15, a16, a17, a18, a19, a20, a21) x0 x1 x2 x3 := by
  subst e0 e1 e2 e3
  unfold wpX_findRoute
  refine cn_spw (mo := 5) hq hA hz hnd hr (by omega) (fun x20 x21 h20 => ?_)
  refine And.intro (pk_in tg 6 htg) (nm_r (e' := nI best) (by rw [cn_at (h20 tg htg), h5]) ?_)
  refine pk_lt best 1000000 (fun _ => ?_) (fun z => absurd z (by omega))
  refine cn_spw (mo := 1) hq hA hz hnd hr (by omega) (fun y20 y21 k20 => ?_)
  refine ⟨1, pk_le 5 1 (fun z => absurd z (by omega)) (fun _ => And.intro (pk_in tg 6 htg) (pk_le best best (fun _ => ?_) (fun z => absurd z (by omega)) (by rw [cn_at (k20 tg htg), h1])))⟩
  refine ⟨2, cn_88s (k := k) (c := 0) (l := 0) hq hA (by omega) (by omega) (by omega) hr hz hfb (fun post' hp => ?_) (fun z20 z21 => ?_)⟩
  · refine cn_nxl hq hA (by omega) hnd hr hz (fun j hj => hl j (by omega)) ?_
    rw [show n - 1 = k by omega]
    exact hp y20 y21
  · exact pk_le 0 0 (fun _ => H z20 z21) (fun z => absurd z (by omega))
/-- a route of two contacts: 1, then 2 -/
theorem cn_fr2 {post : Int32 → St2 → Prop} {fb fn fr : Int32} {a1 a2 a3 a4 a5 a6 a7 a8 a9 a10 a11 a12 a13 a14 a15 a16 a17 a18 a19 a20 a21 : Nat → Int32} {q : cn_Q} {C : Nat → Bool} {B : Nat → Nat → Prop} {r z best x g1 g2 : Nat} {x0 x1 x2 x3 : Int32} (hq : cn_ok q) (hA : cn_A q 3 C B a1 a2 a3 a4 a5 a6 a7 a8) (hr : r ≤ 1000000) (hz : 1 ≤ z ∧ z ≤ 30) (hb : best < 1000000) (hc0 : cn_c q C B z 0 r = 1000000) (hc1 : cn_c q C B z 1 r = x) (hc2 : cn_c q C B z 2 x = best)
    (hx : x < 1000000) (hg : x = g1 + cn_t 1 z + cn_D 1)
    (hf1 : cn_fb (B 1) (cn_t 1 z) (cn_E q 1 - max r (cn_S q 1)) 0 (max r (cn_S q 1)) = some g1)
    (hf2 : cn_fb (B 2) (cn_t 2 z) (cn_E q 2 - max x (cn_S q 2)) 0 (max x (cn_S q 2)) = some g2)
    (H : ∀ x20 x21, post (nI best) (nI 3, fb, fn, nI 2, a1, a2, a3, a4, a5, a6, a7, a8, a9, a10, a11, a12, a13, a14, a15, a16, a17, upd (upd a18 0 (nI 1)) 1 (nI 2), upd (upd a19 0 (nI g1)) 1 (nI g2), x20, x21)) (e0 : x0 = nI (cn_a q) := by rfl) (e1 : x1 = nI (cn_b q) := by rfl) (e2 : x2 = nI r := by rfl) (e3 : x3 = nI z := by rfl) : wpX_findRoute post (nI 3, fb, fn, fr, a1, a2, a3, a4, a5, a6, a7, a8, a9, a10, a11, a12, a13, a14, a15, a16, a17, a18, a19, a20, a21) x0 x1 x2 x3 := by
  subst e0 e1 e2 e3
  have hok := hq
  obtain ⟨ha6, hv6, hb6, hav, hab, hvb, _⟩ := hok
  have hdd : ∀ y, cn_dd (cn_c q C B z) y 3 = cn_c q C B z 2 y := by
    intro y
    have := cn_c_le hq (C := C) (B := B) (z := z) (k := 2) (r := y)
    show min 1000000 (cn_c q C B z 2 y) = cn_c q C B z 2 y
    omega
  have s1 : cn_sp q (cn_c q C B z) 3 (cn_a q) r 1 (cn_b q) = 1000000 := by
    rw [cn_sp_a1 hq (fun k => cn_c_N) (fun k r => cn_c_le hq) (by omega), cn_tr_b hq, hc0]
  have s2 : ∀ i, cn_sp q (cn_c q C B z) 3 (cn_a q) r (i + 2) (cn_b q) = best := by
    intro i
    rw [cn_sp_a2 hq (fun k => cn_c_N) (fun k r => cn_c_le hq) (by omega) (x := x) (by rw [if_pos (by omega), hc1]) i, cn_tr_b hq, hc0, hdd, hc2]
    omega
  unfold wpX_findRoute
  refine cn_spw (mo := 5) hq hA hz ha6 hr (by omega) (fun x20 x21 h20 => ?_)
  refine And.intro (pk_in (cn_b q) 6 hb6) (nm_r (e' := nI best) (by rw [cn_at (h20 _ hb6), s2 3]) ?_)
  refine pk_lt best 1000000 (fun _ => ?_) (fun z => absurd z (by omega))
  refine cn_spw (mo := 1) hq hA hz ha6 hr (by omega) (fun y20 y21 k20 => ?_)
  refine ⟨2, pk_le 5 1 (fun z => absurd z (by omega)) (fun _ => And.intro (pk_in (cn_b q) 6 hb6) (pk_le 1000000 best (fun z => absurd z (by omega)) (fun _ => ?_) (by rw [cn_at (k20 _ hb6), s1])))⟩
  refine nm_r (nI_1 1) ?_
  refine cn_spw (mo := 2) hq hA hz ha6 hr (by omega) (fun w20 w21 l20 => ?_)
  refine pk_le 5 2 (fun z => absurd z (by omega)) (fun _ => And.intro (pk_in (cn_b q) 6 hb6) (pk_le best best (fun _ => ?_) (fun z => absurd z (by omega)) (by rw [cn_at (l20 _ hb6), s2 0])))
  refine ⟨3, cn_88s (k := 1) (c := 0) (l := 1) hq hA (by omega) (by omega) (by omega) hr hz hf1 (fun post' hp => ?_) (fun z20 z21 => ?_)⟩
  · refine cn_nx1 hq hA (by omega) hb6 hr hz (by omega) hc0 (by omega) ?_ hp
    rcases cn_sp_v hq (c := cn_c q C B z) (fun k => cn_c_N) (n := 3) (r := cn_c q C B z 1 r) (by omega) 0 with e | e
    · rw [e, cn_tr_b hq, hdd, hc1, hc2]
      exact Nat.le_refl _
    · omega
  · rw [← hg]
    refine cn_88s (k := 2) (c := 1) (l := 0) (f := 1) hq hA (by omega) (by omega) (by omega) (by omega) hz hf2 (fun post' hp => ?_) (fun v20 v21 => ?_)
    · refine cn_nxl hq hA (by omega) (cn_to6 hq 1) (by omega) hz (fun j hj => Or.inl ?_) (hp z20 z21)
      have e : cn_fr q j = cn_a q := if_pos (by omega)
      rw [e]
      exact hav
    · exact pk_le 0 0 (fun _ => H v20 v21) (fun z => absurd z (by omega))
end
section
/-- what the bundles' arrays hold: routed, hops (contact, begin) -/
def cn_U (q : cn_Q) (n m : Nat) (R : Nat → Bool) (H : Nat → List (Nat × Nat)) (a9 a10 a11 a12 a13 a15 a16 a17 : Nat → Int32) : Prop :=
  m ≤ 3 ∧ (∀ i, i < 3 → a13 i = cn_i (R i)) ∧ ∀ i, i < m → a9 i = nI (cn_a q) ∧ a10 i = nI (cn_b q) ∧ a11 i = nI (cn_z q i) ∧ a12 i = nI (cn_l i) ∧ a15 i = nI (H i).length ∧ (H i).length ≤ 9 ∧ (∀ j k g, (H i)[j]? = some (k, g) → k < n ∧ g + cn_t k (cn_z q i) ≤ 100 ∧ a16 (100 * i + j) = nI k ∧ a17 (100 * i + j) = nI g)
/-- a state: n contacts, m bundles, the time T; cancelled, busy, routed, hops; what isHit holds -/
def cn_I (q : cn_Q) (n m T : Nat) (C : Nat → Bool) (B : Nat → Nat → Prop) (R : Nat → Bool) (H : Nat → List (Nat × Nat)) (A : Nat → Int32) (u : St2) : Prop := match u with
  | (fc, fb, fn, fr, a1, a2, a3, a4, a5, a6, a7, a8, a9, a10, a11, a12, a13, a14, a15, a16, a17, a18, a19, a20, a21) => fc = nI n ∧ fb = nI m ∧ fn = nI T ∧ T ≤ 300 ∧ a14 = A ∧ cn_A q n C B a1 a2 a3 a4 a5 a6 a7 a8 ∧ cn_U q n m R H a9 a10 a11 a12 a13 a15 a16 a17
def cn_u {α : Type} (f : Nat → α) (i : Nat) (x : α) : Nat → α := fun j => if j = i then x else f j
theorem cn_us {α : Type} {f : Nat → α} {i : Nat} {x : α} : cn_u f i x i = x := if_pos rfl
theorem cn_un {α : Type} {f : Nat → α} {i j : Nat} {x : α} (h : j ≠ i) : cn_u f i x j = f j := if_neg h
def cn_B1 (B : Nat → Nat → Prop) (k g t : Nat) : Nat → Nat → Prop := fun k' y => B k' y ∨ (k' = k ∧ g ≤ y ∧ y < g + t)
def cn_B0 (B : Nat → Nat → Prop) (k g t : Nat) : Nat → Nat → Prop := fun k' y => B k' y ∧ ¬ (k' = k ∧ g ≤ y ∧ y < g + t)
theorem cn_A_B {q : cn_Q} {n : Nat} {C : Nat → Bool} {B B' : Nat → Nat → Prop} {a1 a2 a3 a4 a5 a6 a7 a8 : Nat → Int32} (h : cn_A q n C B a1 a2 a3 a4 a5 a6 a7 a8) (hB : ∀ k y, k < 5 → y < 101 → (B k y ↔ B' k y)) : cn_A q n C B' a1 a2 a3 a4 a5 a6 a7 a8 := by
  obtain ⟨h1, h2, h3, h4⟩ := h
  refine ⟨h1, h2, h3, fun k t hk ht => ?_⟩
  rw [← hB k t hk ht]
  exact h4 k t hk ht
theorem cn_I_B {q : cn_Q} {n m T : Nat} {C : Nat → Bool} {B B' : Nat → Nat → Prop} {R : Nat → Bool} {H : Nat → List (Nat × Nat)} {A : Nat → Int32} {u : St2} (h : cn_I q n m T C B R H A u) (hB : ∀ k y, k < 5 → y < 101 → (B k y ↔ B' k y)) : cn_I q n m T C B' R H A u := by
  obtain ⟨fc, fb, fn, fr, a1, a2, a3, a4, a5, a6, a7, a8, a9, a10, a11, a12, a13, a14, a15, a16, a17, a18, a19, a20, a21⟩ := u
  obtain ⟨h1, h2, h3, h4, h5, h6, h7⟩ := h
  exact ⟨h1, h2, h3, h4, h5, cn_A_B h6 hB, h7⟩
theorem cn_I_R {q : cn_Q} {n m T : Nat} {C : Nat → Bool} {B : Nat → Nat → Prop} {R R' : Nat → Bool} {H H' : Nat → List (Nat × Nat)} {A : Nat → Int32} {u : St2} (h : cn_I q n m T C B R H A u) (hR : ∀ i, i < 3 → R' i = R i) (hH : ∀ i, i < m → H' i = H i) : cn_I q n m T C B R' H' A u := by
  obtain ⟨fc, fb, fn, fr, a1, a2, a3, a4, a5, a6, a7, a8, a9, a10, a11, a12, a13, a14, a15, a16, a17, a18, a19, a20, a21⟩ := u
  obtain ⟨h1, h2, h3, h4, h5, h6, ⟨h7, h8, h9⟩⟩ := h
  refine ⟨h1, h2, h3, h4, h5, h6, ⟨h7, fun i hi => ?_, fun i hi => ?_⟩⟩
  · rw [hR i hi]
    exact h8 i hi
  · rw [hH i hi]
    exact h9 i hi
/-- setBusy writes the ticks g .. g + t - 1 of contact k -/
theorem cn_sb {post : St2 → Prop} {fc fb fn fr : Int32} {a1 a2 a3 a4 a5 a6 a7 a8 a9 a10 a11 a12 a13 a14 a15 a16 a17 a18 a19 a20 a21 : Nat → Int32} {k g t : Nat} {x0 x1 x2 x3 : Int32} (hk : k < 5) (hg : g + t ≤ 101) (H : ∀ x8 : Nat → Int32, (∀ y, g ≤ y → y < g + t → x8 (101 * k + y) = vp_nar .boolean x3) → (∀ y, ¬ (101 * k + g ≤ y ∧ y < 101 * k + g + t) → x8 y = a8 y) → post (fc, fb, fn, fr, a1, a2, a3, a4, a5, a6, a7, x8, a9, a10, a11, a12, a13, a14, a15, a16, a17, a18, a19, a20, a21)) (e0 : x0 = nI k := by rfl) (e1 : x1 = nI g := by rfl) (e2 : x2 = nI t := by rfl) : wpX_setBusy post (fc, fb, fn, fr, a1, a2, a3, a4, a5, a6, a7, a8, a9, a10, a11, a12, a13, a14, a15, a16, a17, a18, a19, a20, a21) x0 x1 x2 x3 := by
  subst e0 e1 e2
  have main : ∀ f i (x8 : Nat → Int32), g ≤ i → i ≤ g + t → f = g + t - i → (∀ y, g ≤ y → y < i → x8 (101 * k + y) = vp_nar .boolean x3) → (∀ y, ¬ (101 * k + g ≤ y ∧ y < 101 * k + g + t) → x8 y = a8 y) → wX_setBusy_3 post (nI k) (nI g) (nI t) x3 fc fb fn fr (f + 1) (nI i) a1 a2 a3 a4 a5 a6 a7 x8 a9 a10 a11 a12 a13 a14 a15 a16 a17 a18 a19 a20 a21 := by
    intro f
    induction f with
    | zero =>
      intro i x8 h1 h2 h3 h4 h5
      have e : i = g + t := by omega
      subst e
      exact pk_le (g + t) (g + t) (fun _ => H x8 h4 h5) (fun z => absurd z (by omega)) (nI_add g t)
    | succ f ih =>
      intro i x8 h1 h2 h3 h4 h5
      refine pk_le (g + t) i (fun z => absurd z (by omega)) (fun _ => And.intro (pk_in (101 * k + i) 1010 (by omega) (cn_ix k i)) (nm_e (nm_r (nI_1 i) ?_))) (nI_add g t)
      rw [show (101 * nI k + nI i).toNatClampNeg = 101 * k + i by rw [cn_ix]; exact nI_clamp (by omega)]
      refine ih (i + 1) _ (by omega) (by omega) (by omega) (fun y hy1 hy2 => ?_) (fun y hy => ?_)
      · by_cases e : y = i
        · rw [e, pk_us]
        · rw [pk_un (by omega)]
          exact h4 y hy1 (by omega)
      · rw [pk_un (by omega)]
        exact h5 y hy
  exact ⟨_, main t g a8 (by omega) (by omega) (by omega) (fun y h1 h2 => absurd h1 (by omega)) (fun y _ => rfl)⟩
theorem cn_A_1 {q : cn_Q} {n : Nat} {C : Nat → Bool} {B : Nat → Nat → Prop} {a1 a2 a3 a4 a5 a6 a7 a8 x8 : Nat → Int32} {k g t : Nat} (h : cn_A q n C B a1 a2 a3 a4 a5 a6 a7 a8) (hk : k < 5) (hg : g + t ≤ 101) (h1 : ∀ y, g ≤ y → y < g + t → x8 (101 * k + y) = vp_nar .boolean 1) (h2 : ∀ y, ¬ (101 * k + g ≤ y ∧ y < 101 * k + g + t) → x8 y = a8 y) : cn_A q n C (cn_B1 B k g t) a1 a2 a3 a4 a5 a6 a7 x8 := by
  obtain ⟨k1, k2, k3, k4⟩ := h
  refine ⟨k1, k2, k3, fun k' y hk' hy => ?_⟩
  by_cases e : k' = k ∧ g ≤ y ∧ y < g + t
  · refine Or.inr ⟨?_, Or.inr e⟩
    rw [e.1, h1 y e.2.1 e.2.2]
    rfl
  · rw [h2 (101 * k' + y) (by omega)]
    rcases k4 k' y hk' hy with ⟨z1, z2⟩ | ⟨z1, z2⟩
    · exact Or.inl ⟨z1, fun z => z.elim z2 e⟩
    · exact Or.inr ⟨z1, Or.inl z2⟩
theorem cn_A_0 {q : cn_Q} {n : Nat} {C : Nat → Bool} {B : Nat → Nat → Prop} {a1 a2 a3 a4 a5 a6 a7 a8 x8 : Nat → Int32} {k g t : Nat} (h : cn_A q n C B a1 a2 a3 a4 a5 a6 a7 a8) (hk : k < 5) (hg : g + t ≤ 101) (h1 : ∀ y, g ≤ y → y < g + t → x8 (101 * k + y) = vp_nar .boolean 0) (h2 : ∀ y, ¬ (101 * k + g ≤ y ∧ y < 101 * k + g + t) → x8 y = a8 y) : cn_A q n C (cn_B0 B k g t) a1 a2 a3 a4 a5 a6 a7 x8 := by
  obtain ⟨k1, k2, k3, k4⟩ := h
  refine ⟨k1, k2, k3, fun k' y hk' hy => ?_⟩
  by_cases e : k' = k ∧ g ≤ y ∧ y < g + t
  · refine Or.inl ⟨?_, fun z => z.2 e⟩
    rw [e.1, h1 y e.2.1 e.2.2]
    rfl
  · rw [h2 (101 * k' + y) (by omega)]
    rcases k4 k' y hk' hy with ⟨z1, z2⟩ | ⟨z1, z2⟩
    · exact Or.inl ⟨z1, fun z => z2 z.1⟩
    · exact Or.inr ⟨z1, ⟨z2, e⟩⟩
/-- a hop is added -/
theorem cn_U_add {q : cn_Q} {n m : Nat} {R : Nat → Bool} {H : Nat → List (Nat × Nat)} {a9 a10 a11 a12 a13 a15 a16 a17 : Nat → Int32} {i k g : Nat} (h : cn_U q n m R H a9 a10 a11 a12 a13 a15 a16 a17) (hi : i < m) (hl : (H i).length < 9) (hk : k < n) (hg : g + cn_t k (cn_z q i) ≤ 100) : cn_U q n m R (cn_u H i (H i ++ [(k, g)])) a9 a10 a11 a12 a13 (upd a15 i (nI ((H i).length + 1))) (upd a16 (100 * i + (H i).length) (nI k)) (upd a17 (100 * i + (H i).length) (nI g)) := by
  obtain ⟨h1, h2, h3⟩ := h
  refine ⟨h1, h2, fun j hj => ?_⟩
  obtain ⟨k1, k2, k3, k4, k5, k6, k7⟩ := h3 j hj
  by_cases e : j = i
  · subst e
    rw [cn_us, pk_us, List.length_append]
    refine ⟨k1, k2, k3, k4, rfl, by show (H j).length + 1 ≤ 9; omega, fun x k' g' hx => ?_⟩
    by_cases ex : x = (H j).length
    · subst ex
      rw [List.getElem?_append_right (Nat.le_refl _), Nat.sub_self] at hx
      have hx' : (k, g) = (k', g') := Option.some.inj hx
      obtain ⟨rfl, rfl⟩ := Prod.mk.inj hx'
      exact ⟨hk, hg, pk_us, pk_us⟩
    · have hlt : x < (H j).length := by
        rcases Nat.lt_or_ge x (H j).length with z | z
        · exact z
        · rw [List.getElem?_eq_none (by rw [List.length_append]; show (H j).length + 1 ≤ x; omega)] at hx
          exact nomatch hx
      rw [List.getElem?_append_left hlt] at hx
      rw [pk_un (by omega), pk_un (by omega)]
      exact k7 x k' g' hx
  · rw [cn_un e, pk_un e]
    refine ⟨k1, k2, k3, k4, k5, k6, fun x k' g' hx => ?_⟩
    have hlt : x < (H j).length := by
      rcases Nat.lt_or_ge x (H j).length with z | z
      · exact z
      · rw [List.getElem?_eq_none z] at hx
        exact nomatch hx
    rw [pk_un (by omega), pk_un (by omega)]
    exact k7 x k' g' hx
/-- the bookings of a route are entered -/
def cn_Bs (z : Nat) : List (Nat × Nat) → (Nat → Nat → Prop) → (Nat → Nat → Prop)
  | [], B => B
  | p :: l, B => cn_Bs z l (cn_B1 B p.1 p.2 (cn_t p.1 z))
theorem cn_138 {post : St2 → Prop} {q : cn_Q} {n m i c : Nat} {C : Nat → Bool} {R : Nat → Bool} {fb fn : Int32} {a1 a2 a3 a4 a5 a6 a7 a9 a10 a11 a12 a13 a14 a18 a19 a20 a21 : Nat → Int32} (hq : cn_ok q) (hi : i < m) (hc : c ≤ 5) : ∀ (rt : List (Nat × Nat)) (j : Nat) (B : Nat → Nat → Prop) (H : Nat → List (Nat × Nat)) (a8 a15 a16 a17 : Nat → Int32), j + rt.length = c → (H i).length + rt.length ≤ 9 → (∀ x k g, rt[x]? = some (k, g) → k < n ∧ g + cn_t k (cn_z q i) ≤ 100 ∧ a18 (j + x) = nI k ∧ a19 (j + x) = nI g) → cn_A q n C B a1 a2 a3 a4 a5 a6 a7 a8 → cn_U q n m R H a9 a10 a11 a12 a13 a15 a16 a17 →
    (∀ x8 x15 x16 x17, cn_A q n C (cn_Bs (cn_z q i) rt B) a1 a2 a3 a4 a5 a6 a7 x8 → cn_U q n m R (cn_u H i (H i ++ rt)) a9 a10 a11 a12 a13 x15 x16 x17 → post (nI n, fb, fn, nI c, a1, a2, a3, a4, a5, a6, a7, x8, a9, a10, a11, a12, a13, a14, x15, x16, x17, a18, a19, a20, a21)) →
    wX_plan_138 post (nI i) (rt.length + 1) (nI j) (nI n) fb fn (nI c) a1 a2 a3 a4 a5 a6 a7 a8 a9 a10 a11 a12 a13 a14 a15 a16 a17 a18 a19 a20 a21 := by
  intro rt
  induction rt with
  | nil =>
    intro j B H a8 a15 a16 a17 hj hl hr hA hU K
    have e : j = c := hj
    subst e
    refine pk_le j j (fun _ => K a8 a15 a16 a17 hA ?_) (fun z => absurd z (by omega))
    have e : cn_u H i (H i ++ []) = H := by
      funext x
      by_cases ex : x = i
      · rw [ex, cn_us, List.append_nil]
      · rw [cn_un ex]
    rw [e]
    exact hU
  | cons p rt ih =>
    intro j B H a8 a15 a16 a17 hj hl hr hA hU K
    obtain ⟨k, g⟩ := p
    have hl' : (H i).length + (rt.length + 1) ≤ 9 := hl
    have hj' : j + (rt.length + 1) = c := hj
    obtain ⟨r1, r2, r3, r4⟩ := hr 0 k g rfl
    obtain ⟨u1, u2, u3, u4, u5, u6, u7⟩ := hU.2.2 i hi
    have hm := hU.1
    have hn := hA.1
    have hz := cn_z9 hq i
    have ht := cn_t30 (k := k) (z := cn_z q i) hz.1 (by omega)
    have ii : vp_in (nI i) 10 := pk_in i 10 (by omega)
    have ij : vp_in (nI j) 5 := pk_in j 5 (by omega)
    have ci : (nI i).toNatClampNeg = i := nI_clamp (by omega)
    have cj : (nI j).toNatClampNeg = j := nI_clamp (by omega)
    have e15 : a15 (nI i).toNatClampNeg = nI (H i).length := cn_at u5
    have e18 : a18 (nI j).toNatClampNeg = nI k := cn_at r3
    have e19 : a19 (nI j).toNatClampNeg = nI g := cn_at r4
    have eix : 100 * nI i + a15 (nI i).toNatClampNeg = nI (100 * i + (H i).length) := by rw [e15, cn_iy]
    have cix : (100 * nI i + a15 (nI i).toNatClampNeg).toNatClampNeg = 100 * i + (H i).length := by rw [eix]; exact nI_clamp (by omega)
    have iix : vp_in (100 * nI i + a15 (nI i).toNatClampNeg) 1000 := pk_in (100 * i + (H i).length) 1000 (by omega) eix
    refine pk_le c j (fun z => absurd z (by omega)) (fun _ => And.intro ii (pk_le 100 (H i).length (fun z => absurd z (by omega)) (fun _ => And.intro ij (nm_r e18 (And.intro ii (And.intro iix (nm_r (e' := upd a16 (100 * i + (H i).length) (nI k)) (by rw [cix]) ?_))))) rfl e15))
    refine And.intro ii (And.intro ij (And.intro iix (nm_r (e' := upd a17 (100 * i + (H i).length) (nI g)) (by rw [cix, e19]) (And.intro ii (And.intro ii (nm_r (e' := upd a15 i (nI ((H i).length + 1))) (by rw [e15, ci, nI_1]) (And.intro ii ?_)))))))
    refine cn_tf (k := k) (z := cn_z q i) (by omega) (hA.2.2.1 k r1).2.2.2.2.1 (cn_R9 k) (by omega) (And.intro ij ?_) rfl (cn_at u3)
    refine cn_sb (k := k) (g := g) (t := cn_t k (cn_z q i)) (by omega) (by omega) (fun x8 h1 h2 => ?_) rfl e19 rfl
    refine nm_r (nI_1 j) ?_
    refine ih (j + 1) (cn_B1 B k g (cn_t k (cn_z q i))) (cn_u H i (H i ++ [(k, g)])) x8 _ _ _ (by omega) ?_ (fun x k' g' hx => ?_) (cn_A_1 hA (by omega) (by omega) h1 h2) (cn_U_add hU hi (by omega) r1 (by omega)) (fun y8 y15 y16 y17 hA' hU' => K y8 y15 y16 y17 hA' ?_)
    · rw [cn_us, List.length_append]
      show (H i).length + 1 + rt.length ≤ 9
      omega
    · have := hr (x + 1) k' g' hx
      rw [show j + 1 + x = j + (x + 1) by omega]
      exact this
    · have e : cn_u (cn_u H i (H i ++ [(k, g)])) i (cn_u H i (H i ++ [(k, g)]) i ++ rt) = cn_u H i (H i ++ (k, g) :: rt) := by
        funext x
        by_cases ex : x = i
        · rw [ex, cn_us, cn_us, cn_us, List.append_assoc]
          rfl
        · rw [cn_un ex, cn_un ex, cn_un ex]
      rw [← e]
      exact hU'
theorem cn_cib {post : Int32 → Prop} {fc fb fn fr : Int32} {a1 a2 a3 a4 a5 a6 a7 a8 a9 a10 a11 a12 a13 a14 a15 a16 a17 a18 a19 a20 a21 : Nat → Int32} {q : cn_Q} {n m i j k g : Nat} {C : Nat → Bool} {B : Nat → Nat → Prop} {R : Nat → Bool} {H : Nat → List (Nat × Nat)} {x0 x1 : Int32} (hq : cn_ok q) (hA : cn_A q n C B a1 a2 a3 a4 a5 a6 a7 a8) (hU : cn_U q n m R H a9 a10 a11 a12 a13 a15 a16 a17) (hi : i < m) (hj : (H i)[j]? = some (k, g)) (K : post (nI (g + cn_t k (cn_z q i) + cn_D k))) (e0 : x0 = nI i := by rfl) (e1 : x1 = nI j := by rfl) : wpX_comesInBy post (fc, fb, fn, fr, a1, a2, a3, a4, a5, a6, a7, a8, a9, a10, a11, a12, a13, a14, a15, a16, a17, a18, a19, a20, a21) x0 x1 := by
  subst e0 e1
  have hm := hU.1
  have hn := hA.1
  obtain ⟨u1, u2, u3, u4, u5, u6, u7⟩ := hU.2.2 i hi
  obtain ⟨v1, v2, v3, v4⟩ := u7 j k g hj
  have hlt : j < (H i).length := by
    rcases Nat.lt_or_ge j (H i).length with z | z
    · exact z
    · rw [List.getElem?_eq_none z] at hj
      exact nomatch hj
  have hz := cn_z9 hq i
  have iix : vp_in (100 * nI i + nI j) 1000 := pk_in (100 * i + j) 1000 (by omega) (cn_iy i j)
  have hx := hA.2.2.1 k v1
  refine And.intro iix (nm_r (cn_at v3 (cn_iy i j)) (And.intro iix (And.intro (pk_in i 10 (by omega)) ?_)))
  refine cn_tf (k := k) (z := cn_z q i) (by omega) hx.2.2.2.2.1 (cn_R9 k) (by omega) (And.intro (pk_in k 10 (by omega)) ?_) rfl (cn_at u3)
  rw [cn_at v4 (cn_iy i j), cn_at hx.2.2.2.2.2, nI_add, nI_add]
  exact K
/-- where the bookings lead to -/
def cn_nd (q : cn_Q) (l : List (Nat × Nat)) : Nat := match l.getLast? with
  | none => cn_a q
  | some p => cn_to q p.1
theorem cn_last {post : Int32 → Prop} {fc fb fn fr : Int32} {a1 a2 a3 a4 a5 a6 a7 a8 a9 a10 a11 a12 a13 a14 a15 a16 a17 a18 a19 a20 a21 : Nat → Int32} {q : cn_Q} {n m i : Nat} {C : Nat → Bool} {B : Nat → Nat → Prop} {R : Nat → Bool} {H : Nat → List (Nat × Nat)} {x0 : Int32} (hq : cn_ok q) (hA : cn_A q n C B a1 a2 a3 a4 a5 a6 a7 a8) (hU : cn_U q n m R H a9 a10 a11 a12 a13 a15 a16 a17) (hi : i < m) (K : post (nI (cn_nd q (H i)))) (e0 : x0 = nI i := by rfl) : wpX_lastNode post (fc, fb, fn, fr, a1, a2, a3, a4, a5, a6, a7, a8, a9, a10, a11, a12, a13, a14, a15, a16, a17, a18, a19, a20, a21) x0 := by
  subst e0
  have hm := hU.1
  have hn := hA.1
  obtain ⟨u1, u2, u3, u4, u5, u6, u7⟩ := hU.2.2 i hi
  have ii : vp_in (nI i) 10 := pk_in i 10 (by omega)
  have e15 : a15 (nI i).toNatClampNeg = nI (H i).length := cn_at u5
  unfold cn_nd at K
  rw [List.getLast?_eq_getElem?] at K
  refine And.intro ii (pk_eq (H i).length 0 (fun e => And.intro ii ?_) (fun e => And.intro ii ?_) e15)
  · rw [List.getElem?_eq_none (by omega)] at K
    rw [cn_at u1]
    exact K
  · have hlt : (H i).length - 1 < (H i).length := by omega
    rw [List.getElem?_eq_getElem hlt] at K
    obtain ⟨v1, v2, v3, v4⟩ := u7 ((H i).length - 1) ((H i)[(H i).length - 1]).1 ((H i)[(H i).length - 1]).2 (List.getElem?_eq_getElem hlt)
    have eix : 100 * nI i + a15 (nI i).toNatClampNeg - 1 = nI (100 * i + ((H i).length - 1)) := by
      rw [e15, cn_iy, cn_pr (by omega), show 100 * i + (H i).length - 1 = 100 * i + ((H i).length - 1) by omega]
    have e16 := cn_at v3 eix
    refine And.intro (pk_in (100 * i + ((H i).length - 1)) 1000 (by omega) eix) (And.intro (pk_in _ 10 (by omega) e16) ?_)
    rw [cn_at (hA.2.2.1 _ v1).2.1 e16]
    exact K
end
section
/-- what findRoute finds from the node nd, ready at r: no route, the last contact alone, or the contacts 1 and 2 -/
def cn_FR (q : cn_Q) (n : Nat) (C : Nat → Bool) (B : Nat → Nat → Prop) (z nd r : Nat) (rt : List (Nat × Nat)) (best : Nat) : Prop :=
  (rt = [] ∧ cn_sp q (cn_c q C B z) n nd r 5 (cn_b q) = 1000000) ∨
  (∃ k g, rt = [(k, g)] ∧ best < 1000000 ∧ cn_sp q (cn_c q C B z) n nd r 5 (cn_b q) = best ∧ cn_sp q (cn_c q C B z) n nd r 1 (cn_b q) = best ∧ n = k + 1 ∧ (∀ j, j < k → cn_fr q j ≠ nd ∨ cn_c q C B z j r = 1000000) ∧ cn_fb (B k) (cn_t k z) (cn_E q k - max r (cn_S q k)) 0 (max r (cn_S q k)) = some g) ∨
  (∃ x g1 g2, rt = [(1, g1), (2, g2)] ∧ best < 1000000 ∧ n = 3 ∧ nd = cn_a q ∧ cn_c q C B z 0 r = 1000000 ∧ cn_c q C B z 1 r = x ∧ cn_c q C B z 2 x = best ∧ x < 1000000 ∧ x = g1 + cn_t 1 z + cn_D 1 ∧ cn_fb (B 1) (cn_t 1 z) (cn_E q 1 - max r (cn_S q 1)) 0 (max r (cn_S q 1)) = some g1 ∧ cn_fb (B 2) (cn_t 2 z) (cn_E q 2 - max x (cn_S q 2)) 0 (max x (cn_S q 2)) = some g2)
theorem cn_fb_E {B : Nat → Prop} {tk E S r g : Nat} (h : cn_fb B tk (E - max r S) 0 (max r S) = some g) : g + tk ≤ E := by
  have h1 := cn_fb_ge (bg := max r S) _ _ _ h (by omega)
  have h2 : 0 < E - max r S := by
    rcases Nat.eq_zero_or_pos (E - max r S) with z | z
    · rw [z] at h
      exact nomatch h
    · exact z
  omega
theorem cn_find {post : Int32 → St2 → Prop} {fb fn fr : Int32} {a1 a2 a3 a4 a5 a6 a7 a8 a9 a10 a11 a12 a13 a14 a15 a16 a17 a18 a19 a20 a21 : Nat → Int32} {q : cn_Q} {n : Nat} {C : Nat → Bool} {B : Nat → Nat → Prop} {nd r z best : Nat} {rt : List (Nat × Nat)} {x0 x1 x2 x3 : Int32} (hq : cn_ok q) (hA : cn_A q n C B a1 a2 a3 a4 a5 a6 a7 a8) (hnd : nd < 6) (hr : r ≤ 1000000) (hz : 1 ≤ z ∧ z ≤ 30) (hF : cn_FR q n C B z nd r rt best)
    (K0 : rt = [] → ∀ x20 x21, post 1000000 (nI n, fb, fn, fr, a1, a2, a3, a4, a5, a6, a7, a8, a9, a10, a11, a12, a13, a14, a15, a16, a17, a18, a19, x20, x21))
    (K1 : rt ≠ [] → rt.length ≤ 2 → best < 1000000 → ∀ x18 x19 x20 x21, (∀ x k g, rt[x]? = some (k, g) → k < n ∧ g + cn_t k z ≤ 99 ∧ x18 x = nI k ∧ x19 x = nI g) → post (nI best) (nI n, fb, fn, nI rt.length, a1, a2, a3, a4, a5, a6, a7, a8, a9, a10, a11, a12, a13, a14, a15, a16, a17, x18, x19, x20, x21))
    (e0 : x0 = nI nd := by rfl) (e1 : x1 = nI (cn_b q) := by rfl) (e2 : x2 = nI r := by rfl) (e3 : x3 = nI z := by rfl) : wpX_findRoute post (nI n, fb, fn, fr, a1, a2, a3, a4, a5, a6, a7, a8, a9, a10, a11, a12, a13, a14, a15, a16, a17, a18, a19, a20, a21) x0 x1 x2 x3 := by
  have hb6 := hq.2.2.1
  rcases hF with ⟨h1, h2⟩ | ⟨k, g, h1, h2, h3, h4, h5, h6, h7⟩ | ⟨x, g1, g2, h1, h2, h3, h4, h5, h6, h7, h8, h9, h10, h11⟩
  · exact cn_fr0 hq hA hnd hb6 hr hz h2 (K0 h1) e0 e1 e2 e3
  · subst h1
    refine cn_fr1 hq hA hnd hb6 hr hz h2 h3 h4 h5 h6 h7 (fun x20 x21 => K1 (fun z => nomatch z) (show 1 ≤ 2 by omega) h2 _ _ x20 x21 (fun x k' g' hx => ?_)) e0 e1 e2 e3
    have hE := cn_E99 hq k
    have hg := cn_fb_E h7
    match x, hx with
    | 0, hx =>
      obtain ⟨rfl, rfl⟩ := Prod.mk.inj (Option.some.inj hx)
      exact ⟨by omega, by omega, pk_us, pk_us⟩
    | x + 1, hx => exact nomatch hx
  · subst h1
    subst h3
    subst h4
    refine cn_fr2 hq hA hr hz h2 h5 h6 h7 h8 h9 h10 h11 (fun x20 x21 => K1 (fun z => nomatch z) (show 2 ≤ 2 by omega) h2 _ _ x20 x21 (fun x k' g' hx => ?_)) e0 e1 e2 e3
    have hE1 := cn_E99 hq 1
    have hE2 := cn_E99 hq 2
    have hg1 := cn_fb_E h10
    have hg2 := cn_fb_E h11
    match x, hx with
    | 0, hx =>
      obtain ⟨rfl, rfl⟩ := Prod.mk.inj (Option.some.inj hx)
      exact ⟨by omega, by omega, by rw [pk_un (by omega), pk_us], by rw [pk_un (by omega), pk_us]⟩
    | 1, hx =>
      obtain ⟨rfl, rfl⟩ := Prod.mk.inj (Option.some.inj hx)
      exact ⟨by omega, by omega, pk_us, pk_us⟩
    | x + 2, hx => exact nomatch hx
theorem cn_u13 {R : Nat → Bool} {a13 : Nat → Int32} {i : Nat} {b : Bool} {y : Int32} (h : ∀ j, j < 3 → a13 j = cn_i (R j)) (hy : y = cn_i b) : ∀ j, j < 3 → upd a13 i y j = cn_i (cn_u R i b j) := by
  intro j hj
  by_cases e : j = i
  · rw [e, pk_us, cn_us, hy]
  · rw [pk_un e, cn_un e]
    exact h j hj
theorem cn_nd6 {q : cn_Q} (hq : cn_ok q) (l : List (Nat × Nat)) : cn_nd q l < 6 := by
  unfold cn_nd
  split
  · exact hq.1
  · exact cn_to6 hq _
theorem cn_p45 {post : St2 → Prop} {fb fn fr : Int32} {a1 a2 a3 a4 a5 a6 a7 a8 a9 a10 a11 a12 a13 a14 a15 a16 a17 a18 a19 a20 a21 : Nat → Int32} {q : cn_Q} {n m : Nat} {C : Nat → Bool} {B : Nat → Nat → Prop} {R : Nat → Bool} {H : Nat → List (Nat × Nat)} {i r best : Nat} {rt : List (Nat × Nat)} (hq : cn_ok q) (hA : cn_A q n C B a1 a2 a3 a4 a5 a6 a7 a8) (hU : cn_U q n m R H a9 a10 a11 a12 a13 a15 a16 a17) (hi : i < m) (hr : r ≤ 1000000) (hnd : cn_nd q (H i) ≠ cn_b q) (hF : cn_FR q n C B (cn_z q i) (cn_nd q (H i)) r rt best) (hb : rt = [] ∨ best ≤ cn_l i) (hl : (H i).length + rt.length ≤ 9)
    (K : ∀ fr x8 x13 x15 x16 x17 x18 x19 x20 x21, cn_A q n C (cn_Bs (cn_z q i) rt B) a1 a2 a3 a4 a5 a6 a7 x8 → cn_U q n m (cn_u R i (!rt.isEmpty)) (cn_u H i (H i ++ rt)) a9 a10 a11 a12 x13 x15 x16 x17 → post (nI n, fb, fn, fr, a1, a2, a3, a4, a5, a6, a7, x8, a9, a10, a11, a12, x13, a14, x15, x16, x17, x18, x19, x20, x21)) :
    wX_plan_45 post (nI i) (nI r) (nI n) fb fn fr a1 a2 a3 a4 a5 a6 a7 a8 a9 a10 a11 a12 a13 a14 a15 a16 a17 a18 a19 a20 a21 := by
  have hm := hU.1
  have hz := cn_z9 hq i
  have hb6 := hq.2.2.1
  have n6 := cn_nd6 hq (H i)
  obtain ⟨u1, u2, u3, u4, u5, u6, u7⟩ := hU.2.2 i hi
  have ii : vp_in (nI i) 10 := pk_in i 10 (by omega)
  have ci : (nI i).toNatClampNeg = i := nI_clamp (by omega)
  unfold wX_plan_45
  refine cn_last hq hA hU hi (And.intro ii (nm_r (e' := upd a13 i 0) (by rw [ci]) (And.intro ii ?_)))
  refine pk_eq (cn_nd q (H i)) (cn_b q) (fun e => absurd e hnd) (fun _ => And.intro ii (And.intro ii ?_)) rfl (cn_at u2)
  have h130 : ∀ j, j < 3 → upd a13 i 0 j = cn_i (cn_u R i false j) := cn_u13 hU.2.1 rfl
  refine cn_find hq hA n6 hr ⟨hz.1, by omega⟩ hF (fun e x20 x21 => ?_) (fun e e2 e3 x18 x19 x20 x21 hx => ?_) rfl (cn_at u2) rfl (cn_at u3)
  · subst e
    refine pk_le 1000000 1000000 (fun _ => K _ _ _ _ _ _ _ _ _ _ hA ⟨hm, h130, ?_⟩) (fun z => absurd z (by omega))
    have e : cn_u H i (H i ++ []) = H := by
      funext x
      by_cases ex : x = i
      · rw [ex, cn_us, List.append_nil]
      · rw [cn_un ex]
    rw [e]
    exact hU.2.2
  · have hl4 : cn_l i ≤ 200 := by
      unfold cn_l
      split <;> omega
    have hb' : best ≤ cn_l i := hb.resolve_left e
    refine pk_le 1000000 best (fun z => absurd z (by omega)) (fun _ => And.intro ii (pk_le best (cn_l i) (fun _ => And.intro ii (nm_r (e' := upd (upd a13 i 0) i 1) (by rw [ci]) ⟨rt.length + 1, ?_⟩)) (fun z => absurd z (by omega)) rfl (cn_at u4)))
    have hU' : cn_U q n m (cn_u (cn_u R i false) i true) H a9 a10 a11 a12 (upd (upd a13 i 0) i 1) a15 a16 a17 := ⟨hm, cn_u13 h130 rfl, hU.2.2⟩
    refine cn_138 hq hi (c := rt.length) (by omega) rt 0 B H a8 a15 a16 a17 (by omega) hl (fun x k g h => ?_) hA hU' (fun y8 y15 y16 y17 hA2 hU2 => K _ _ _ _ _ _ _ _ _ _ hA2 ?_)
    · obtain ⟨z1, z2, z3, z4⟩ := hx x k g h
      rw [Nat.zero_add]
      exact ⟨z1, by omega, z3, z4⟩
    · have e4 : cn_u (cn_u R i false) i true = cn_u R i (!rt.isEmpty) := by
        funext x
        by_cases ex : x = i
        · rw [ex, cn_us, cn_us]
          cases rt with
          | nil => exact absurd rfl e
          | cons _ _ => rfl
        · rw [cn_un ex, cn_un ex, cn_un ex]
      rw [← e4]
      exact hU2
/-- when a bundle is ready behind its bookings -/
def cn_ry (q : cn_Q) (T i : Nat) (l : List (Nat × Nat)) : Nat := match l.getLast? with
  | none => T
  | some p => max (p.2 + cn_t p.1 (cn_z q i) + cn_D p.1) T
theorem cn_plan {post : St2 → Prop} {u : St2} {q : cn_Q} {n m T : Nat} {C : Nat → Bool} {B : Nat → Nat → Prop} {R : Nat → Bool} {H : Nat → List (Nat × Nat)} {A : Nat → Int32} {i best : Nat} {rt : List (Nat × Nat)} {x0 : Int32} (hq : cn_ok q) (hI : cn_I q n m T C B R H A u) (hi : i < m) (hnd : cn_nd q (H i) ≠ cn_b q) (hF : cn_FR q n C B (cn_z q i) (cn_nd q (H i)) (cn_ry q T i (H i)) rt best) (hb : rt = [] ∨ best ≤ cn_l i) (hl : (H i).length + rt.length ≤ 9)
    (K : ∀ u', cn_I q n m T C (cn_Bs (cn_z q i) rt B) (cn_u R i (!rt.isEmpty)) (cn_u H i (H i ++ rt)) A u' → post u') (e0 : x0 = nI i := by rfl) : wpX_plan post u x0 := by
  subst e0
  obtain ⟨fc, fb, fn, fr, a1, a2, a3, a4, a5, a6, a7, a8, a9, a10, a11, a12, a13, a14, a15, a16, a17, a18, a19, a20, a21⟩ := u
  obtain ⟨h1, h2, h3, h4, h5, hA, hU⟩ := hI
  subst h1 h2 h3 h5
  have hm := hU.1
  have hz := cn_z9 hq i
  obtain ⟨u1, u2, u3, u4, u5, u6, u7⟩ := hU.2.2 i hi
  have ii : vp_in (nI i) 10 := pk_in i 10 (by omega)
  have e15 : a15 (nI i).toNatClampNeg = nI (H i).length := cn_at u5
  unfold cn_ry at hF
  rw [List.getLast?_eq_getElem?] at hF
  refine And.intro ii (pk_le (H i).length 0 (fun e => ?_) (fun e => And.intro ii ?_) e15)
  · rw [List.getElem?_eq_none (by omega)] at hF
    exact cn_p45 hq hA hU hi (show T ≤ 1000000 by omega) hnd hF hb hl (fun _ _ _ _ _ _ _ _ _ _ hA' hU' => K _ ⟨rfl, rfl, rfl, h4, rfl, hA', hU'⟩)
  · have hlt : (H i).length - 1 < (H i).length := by omega
    rw [List.getElem?_eq_getElem hlt] at hF
    obtain ⟨v1, v2, v3, v4⟩ := u7 ((H i).length - 1) ((H i)[(H i).length - 1]).1 ((H i)[(H i).length - 1]).2 (List.getElem?_eq_getElem hlt)
    have hp : (H i)[(H i).length - 1]? = some (((H i)[(H i).length - 1]).1, ((H i)[(H i).length - 1]).2) := List.getElem?_eq_getElem hlt
    generalize (H i)[(H i).length - 1] = p at hF v1 v2 v3 v4 hp
    have ht := cn_t30 (k := p.1) (z := cn_z q i) hz.1 (by omega)
    have hD := cn_D9 p.1
    refine cn_cib hq hA hU hi hp ?_ rfl (by rw [e15]; exact cn_pr (by omega))
    refine pk_le (p.2 + cn_t p.1 (cn_z q i) + cn_D p.1) T (fun e2 => ?_) (fun e2 => ?_)
    · have e3 : max (p.2 + cn_t p.1 (cn_z q i) + cn_D p.1) T = T := by omega
      have hF' : cn_FR q n C B (cn_z q i) (cn_nd q (H i)) (max (p.2 + cn_t p.1 (cn_z q i) + cn_D p.1) T) rt best := hF
      rw [e3] at hF'
      exact cn_p45 hq hA hU hi (show T ≤ 1000000 by omega) hnd hF' hb hl (fun _ _ _ _ _ _ _ _ _ _ hA' hU' => K _ ⟨rfl, rfl, rfl, h4, rfl, hA', hU'⟩)
    · have e3 : max (p.2 + cn_t p.1 (cn_z q i) + cn_D p.1) T = p.2 + cn_t p.1 (cn_z q i) + cn_D p.1 := by omega
      have hF' : cn_FR q n C B (cn_z q i) (cn_nd q (H i)) (max (p.2 + cn_t p.1 (cn_z q i) + cn_D p.1) T) rt best := hF
      rw [e3] at hF'
      exact cn_p45 hq hA hU hi (by omega) hnd hF' hb hl (fun _ _ _ _ _ _ _ _ _ _ hA' hU' => K _ ⟨rfl, rfl, rfl, h4, rfl, hA', hU'⟩)
/-- retry, from bundle i on -/
def cn_rt (post : St2 → Prop) (f i : Nat) (u : St2) : Prop := match u with
  | (fc, fb, fn, fr, a1, a2, a3, a4, a5, a6, a7, a8, a9, a10, a11, a12, a13, a14, a15, a16, a17, a18, a19, a20, a21) => wX_retry_2 post f (nI i) fc fb fn fr a1 a2 a3 a4 a5 a6 a7 a8 a9 a10 a11 a12 a13 a14 a15 a16 a17 a18 a19 a20 a21
theorem cn_retry {post : St2 → Prop} {u : St2} (h : ∃ f, cn_rt post f 0 u) : wpX_retry post u := by
  obtain ⟨fc, fb, fn, fr, a1, a2, a3, a4, a5, a6, a7, a8, a9, a10, a11, a12, a13, a14, a15, a16, a17, a18, a19, a20, a21⟩ := u
  exact h
theorem cn_rt_x {post : St2 → Prop} {u : St2} {q : cn_Q} {n m T : Nat} {C : Nat → Bool} {B : Nat → Nat → Prop} {R : Nat → Bool} {H : Nat → List (Nat × Nat)} {A : Nat → Int32} {f : Nat} (hI : cn_I q n m T C B R H A u) (K : post u) : cn_rt post (f + 1) m u := by
  obtain ⟨fc, fb, fn, fr, a1, a2, a3, a4, a5, a6, a7, a8, a9, a10, a11, a12, a13, a14, a15, a16, a17, a18, a19, a20, a21⟩ := u
  obtain ⟨h1, h2, h3, h4, h5, hA, hU⟩ := hI
  subst h1 h2 h3 h5
  have hm := hU.1
  exact pk_le m m (fun _ => K) (fun z => absurd z (by omega))
theorem cn_rt_y {post : St2 → Prop} {u : St2} {q : cn_Q} {n m T : Nat} {C : Nat → Bool} {B : Nat → Nat → Prop} {R : Nat → Bool} {H : Nat → List (Nat × Nat)} {A : Nat → Int32} {f i : Nat} (hI : cn_I q n m T C B R H A u) (hi : i < m) (hR : R i = true) (K : cn_rt post f (i + 1) u) : cn_rt post (f + 1) i u := by
  obtain ⟨fc, fb, fn, fr, a1, a2, a3, a4, a5, a6, a7, a8, a9, a10, a11, a12, a13, a14, a15, a16, a17, a18, a19, a20, a21⟩ := u
  obtain ⟨h1, h2, h3, h4, h5, hA, hU⟩ := hI
  subst h1 h2 h3 h5
  have hm := hU.1
  exact pk_le m i (fun z => absurd z (by omega)) (fun _ => And.intro (pk_in i 10 (by omega)) (br_f (by rw [cn_at (hU.2.1 i (by omega))]; exact cn_i1 hR) (nm_r (nI_1 i) K)))
theorem cn_rt_n {post : St2 → Prop} {u : St2} {q : cn_Q} {n m T : Nat} {C : Nat → Bool} {B : Nat → Nat → Prop} {R : Nat → Bool} {H : Nat → List (Nat × Nat)} {A : Nat → Int32} {f i best : Nat} {rt : List (Nat × Nat)} (hq : cn_ok q) (hI : cn_I q n m T C B R H A u) (hi : i < m) (hR : R i = false) (hnd : cn_nd q (H i) ≠ cn_b q) (hF : cn_FR q n C B (cn_z q i) (cn_nd q (H i)) (cn_ry q T i (H i)) rt best) (hb : rt = [] ∨ best ≤ cn_l i) (hl : (H i).length + rt.length ≤ 9)
    (K : ∀ u', cn_I q n m T C (cn_Bs (cn_z q i) rt B) (cn_u R i (!rt.isEmpty)) (cn_u H i (H i ++ rt)) A u' → cn_rt post f (i + 1) u') : cn_rt post (f + 1) i u := by
  have hI' := hI
  obtain ⟨fc, fb, fn, fr, a1, a2, a3, a4, a5, a6, a7, a8, a9, a10, a11, a12, a13, a14, a15, a16, a17, a18, a19, a20, a21⟩ := u
  obtain ⟨h1, h2, h3, h4, h5, hA, hU⟩ := hI
  subst h1 h2 h3 h5
  have hm := hU.1
  refine pk_le m i (fun z => absurd z (by omega)) (fun _ => And.intro (pk_in i 10 (by omega)) (br_t (by rw [cn_at (hU.2.1 i (by omega))]; exact cn_i0 hR) ?_))
  refine cn_plan hq hI' hi hnd hF hb hl (fun u' hu' => ?_)
  have := K u' hu'
  obtain ⟨fc, fb, fn, fr, a1, a2, a3, a4, a5, a6, a7, a8, a9, a10, a11, a12, a13, a14, a15, a16, a17, a18, a19, a20, a21⟩ := u'
  exact nm_r (nI_1 i) this
end
section
theorem cn_ends {post : Int32 → Prop} {x y : Nat} {x0 : Int32} (hx : x < 6) (hy : y < 6) (hxy : x ≠ y) (K : post 1) (e0 : x0 = nI (6 * x + y) := by rfl) : wpX_areEnds post () x0 := by
  subst e0
  have e1 : nI (6 * x + y) / 6 = nI x := by
    rw [show (6 : Int32) = nI 6 from rfl, pk_div (by omega) (by omega) (by omega), show (6 * x + y) / 6 = x by omega]
  have e2 : nI (6 * x + y) - nI (6 * x + y) / 6 * 6 = nI y := by
    rw [show (6 : Int32) = nI 6 from rfl, pk_rem (by omega) (by omega) (by omega), show (6 * x + y) % 6 = y by omega]
  exact pk_lt (6 * x + y) 0 (fun z => absurd z (by omega)) (fun _ => pk_le 36 (6 * x + y) (fun z => absurd z (by omega)) (fun _ => And.intro (by decide) (And.intro (by decide) (pk_eq x y (fun z => absurd z hxy) (fun _ => K) e1 e2))))
theorem cn_span {post : Int32 → Prop} {s e : Nat} {x0 : Int32} (h1 : s < e) (h2 : e < 101) (K : post 1) (e0 : x0 = nI (101 * s + e) := by rfl) : wpX_isSpan post () x0 := by
  subst e0
  have e1 : nI (101 * s + e) / 101 = nI s := by
    rw [show (101 : Int32) = nI 101 from rfl, pk_div (by omega) (by omega) (by omega), show (101 * s + e) / 101 = s by omega]
  have e2 : nI (101 * s + e) - nI (101 * s + e) / 101 * 101 = nI e := by
    rw [show (101 : Int32) = nI 101 from rfl, pk_rem (by omega) (by omega) (by omega), show (101 * s + e) % 101 = e by omega]
  exact pk_lt (101 * s + e) 0 (fun z => absurd z (by omega)) (fun _ => And.intro (by decide) (And.intro (by decide) (pk_le e s (fun z => absurd z (by omega)) (fun _ => And.intro (by decide) (pk_le 101 s (fun z => absurd z (by omega)) (fun _ => K) rfl e1)) e2 e1)))
theorem cn_terms {post : Int32 → Prop} {t : Nat} {x0 : Int32} (h1 : 10 ≤ t) (h2 : t < 100) (K : post 1) (e0 : x0 = nI t := by rfl) : wpX_areTerms post () x0 := by
  subst e0
  exact pk_lt t 10 (fun z => absurd z (by omega)) (fun _ => pk_le 100 t (fun z => absurd z (by omega)) (fun _ => K))
theorem cn_size {post : Int32 → Prop} {t : Nat} {x0 : Int32} (h1 : 1 ≤ t) (h2 : t ≤ 30) (K : post 1) (e0 : x0 = nI t := by rfl) : wpX_isSize post () x0 := by
  subst e0
  exact pk_lt t 1 (fun z => absurd z (by omega)) (fun _ => pk_lt 30 t (fun z => absurd z (by omega)) (fun _ => K))
theorem cn_bun {post : Int32 → Prop} {fc fn fr : Int32} {a1 a2 a3 a4 a5 a6 a7 a8 a9 a10 a11 a12 a13 a14 a15 a16 a17 a18 a19 a20 a21 : Nat → Int32} {i m : Nat} {x0 : Int32} (hi : i < m) (hm : m ≤ 3) (K : post 1) (e0 : x0 = nI i := by rfl) : wpX_isBundle post (fc, nI m, fn, fr, a1, a2, a3, a4, a5, a6, a7, a8, a9, a10, a11, a12, a13, a14, a15, a16, a17, a18, a19, a20, a21) x0 := by
  subst e0
  exact pk_lt i 0 (fun z => absurd z (by omega)) (fun _ => pk_le m i (fun z => absurd z (by omega)) (fun _ => K))
theorem cn_con {post : Int32 → Prop} {fb fn fr : Int32} {a1 a2 a3 a4 a5 a6 a7 a8 a9 a10 a11 a12 a13 a14 a15 a16 a17 a18 a19 a20 a21 : Nat → Int32} {i n : Nat} {x0 : Int32} (hi : i < n) (hm : n ≤ 5) (K : post 1) (e0 : x0 = nI i := by rfl) : wpX_isContact post (nI n, fb, fn, fr, a1, a2, a3, a4, a5, a6, a7, a8, a9, a10, a11, a12, a13, a14, a15, a16, a17, a18, a19, a20, a21) x0 := by
  subst e0
  exact pk_lt i 0 (fun z => absurd z (by omega)) (fun _ => pk_le n i (fun z => absurd z (by omega)) (fun _ => K))
/-- retry leads from one picture to another -/
def cn_RT (q : cn_Q) (n m T : Nat) (C : Nat → Bool) (A : Nat → Int32) (B : Nat → Nat → Prop) (R : Nat → Bool) (H : Nat → List (Nat × Nat)) (B' : Nat → Nat → Prop) (R' : Nat → Bool) (H' : Nat → List (Nat × Nat)) : Prop :=
  ∀ (post : St2 → Prop) (u : St2), cn_I q n m T C B R H A u → (∀ u', cn_I q n m T C B' R' H' A u' → post u') → ∃ f, cn_rt post f 0 u
theorem cn_put {f : Nat → Int32} {g : Nat → Nat} {n : Nat} {x y : Int32} (h : ∀ k, k < n → f k = nI (g k)) (hx : x.toNatClampNeg = n) (hy : y = nI (g n)) : ∀ k, k < n + 1 → upd f x.toNatClampNeg y k = nI (g k) := by
  intro k hk
  rw [hx]
  by_cases e : k = n
  · rw [e, pk_us, hy]
  · rw [pk_un e]
    exact h k (by omega)
theorem cn_tab {q : cn_Q} (hq : cn_ok q) {n : Nat} (hn : n < 5) : cn_fr q n < 6 ∧ cn_to q n < 6 ∧ cn_fr q n ≠ cn_to q n ∧ cn_S q n < cn_E q n ∧ cn_E q n < 101 ∧ 10 * cn_R n + cn_D n < 100 := by
  have h1 := cn_fr6 hq n
  have h2 := cn_to6 hq n
  have h3 := cn_E99 hq n
  have h4 := cn_R9 n
  have h5 := cn_D9 n
  obtain ⟨q1, q2, q3, q4, q5, q6, q7, q8, q9, q10, q11⟩ := hq
  refine ⟨h1, h2, ?_, ?_, by omega, by omega⟩
  · rcases (show n = 0 ∨ n = 1 ∨ n = 2 ∨ n = 3 ∨ n = 4 by omega) with e | e | e | e | e <;> subst e
    · exact q5
    · exact q4
    · exact q6
    · exact q6
    · exact q6
  · rcases (show n = 0 ∨ n = 1 ∨ n = 2 ∨ n = 3 ∨ n = 4 by omega) with e | e | e | e | e <;> subst e
    · show cn_s q < cn_s q + cn_o q + cn_w q
      omega
    · show 0 < 50
      omega
    · show 30 < 99
      omega
    · show 60 < 61
      omega
    · show 60 < 99
      omega
theorem cn_contact {post : Int32 → St2 → Prop} {u : St2} {q : cn_Q} {n m T : Nat} {C : Nat → Bool} {B B' : Nat → Nat → Prop} {R R' : Nat → Bool} {H H' : Nat → List (Nat × Nat)} {A : Nat → Int32} {x0 x1 x2 : Int32} (hq : cn_ok q) (hI : cn_I q n m T C B R H A u) (hn : n < 5) (hR : cn_RT q (n + 1) m T C A B R H B' R' H') (K : ∀ u', cn_I q (n + 1) m T C B' R' H' A u' → post (nI n) u') (e0 : x0 = nI (6 * cn_fr q n + cn_to q n)) (e1 : x1 = nI (101 * cn_S q n + cn_E q n)) (e2 : x2 = nI (10 * cn_R n + cn_D n)) : wpX_contact post u x0 x1 x2 := by
  subst e0 e1 e2
  obtain ⟨fc, fb, fn, fr, a1, a2, a3, a4, a5, a6, a7, a8, a9, a10, a11, a12, a13, a14, a15, a16, a17, a18, a19, a20, a21⟩ := u
  obtain ⟨h1, h2, h3, h4, h5, hA, hU⟩ := hI
  subst h1 h2 h3 h5
  obtain ⟨t1, t2, t3, t4, t5, t6⟩ := cn_tab hq hn
  have t7 := cn_R9 n
  have t8 := cn_D9 n
  have cn : (nI n).toNatClampNeg = n := nI_clamp (by omega)
  have ic : vp_in (nI n) 10 := pk_in n 10 (by omega)
  unfold wpX_contact
  refine cn_ends t1 t2 t3 (br_f (by decide) (cn_span t4 t5 (br_f (by decide) (cn_terms (by omega) t6 (br_f (by decide) (pk_lt n 10 (fun _ => nm_r (nI_1 n) ?_) (fun z => absurd z (by omega))))))))
  refine And.intro (by decide) (And.intro ic (nm_e (And.intro (by decide) (And.intro ic (nm_e (And.intro (by decide) (And.intro ic (nm_e (And.intro (by decide) (And.intro ic (nm_e (And.intro (by decide) (And.intro ic (nm_e (And.intro (by decide) (And.intro ic (nm_e ?_)))))))))))))))))
  refine cn_retry (hR _ _ ⟨rfl, rfl, rfl, h4, rfl, ⟨by omega, hA.2.1, ?_, hA.2.2.2⟩, ⟨hU.1, hU.2.1, ?_⟩⟩ (fun u' hu' => ?_))
  · have w2 := cn_put (g := cn_fr q) (fun k hk => (hA.2.2.1 k hk).1) cn (show nI (6 * cn_fr q n + cn_to q n) / 6 = nI (cn_fr q n) by
      rw [show (6 : Int32) = nI 6 from rfl, pk_div (by omega) (by omega) (by omega), show (6 * cn_fr q n + cn_to q n) / 6 = cn_fr q n by omega])
    have w3 := cn_put (g := cn_to q) (fun k hk => (hA.2.2.1 k hk).2.1) cn (show nI (6 * cn_fr q n + cn_to q n) - nI (6 * cn_fr q n + cn_to q n) / 6 * 6 = nI (cn_to q n) by
      rw [show (6 : Int32) = nI 6 from rfl, pk_rem (by omega) (by omega) (by omega), show (6 * cn_fr q n + cn_to q n) % 6 = cn_to q n by omega])
    have w4 := cn_put (g := cn_S q) (fun k hk => (hA.2.2.1 k hk).2.2.1) cn (show nI (101 * cn_S q n + cn_E q n) / 101 = nI (cn_S q n) by
      rw [show (101 : Int32) = nI 101 from rfl, pk_div (by omega) (by omega) (by omega), show (101 * cn_S q n + cn_E q n) / 101 = cn_S q n by omega])
    have w5 := cn_put (g := cn_E q) (fun k hk => (hA.2.2.1 k hk).2.2.2.1) cn (show nI (101 * cn_S q n + cn_E q n) - nI (101 * cn_S q n + cn_E q n) / 101 * 101 = nI (cn_E q n) by
      rw [show (101 : Int32) = nI 101 from rfl, pk_rem (by omega) (by omega) (by omega), show (101 * cn_S q n + cn_E q n) % 101 = cn_E q n by omega])
    have w6 := cn_put (g := cn_R) (fun k hk => (hA.2.2.1 k hk).2.2.2.2.1) cn (show nI (10 * cn_R n + cn_D n) / 10 = nI (cn_R n) by
      rw [show (10 : Int32) = nI 10 from rfl, pk_div (by omega) (by omega) (by omega), show (10 * cn_R n + cn_D n) / 10 = cn_R n by omega])
    have w7 := cn_put (g := cn_D) (fun k hk => (hA.2.2.1 k hk).2.2.2.2.2) cn (show nI (10 * cn_R n + cn_D n) - nI (10 * cn_R n + cn_D n) / 10 * 10 = nI (cn_D n) by
      rw [show (10 : Int32) = nI 10 from rfl, pk_rem (by omega) (by omega) (by omega), show (10 * cn_R n + cn_D n) % 10 = cn_D n by omega])
    exact fun k hk => ⟨w2 k hk, w3 k hk, w4 k hk, w5 k hk, w6 k hk, w7 k hk⟩
  · intro i hi
    obtain ⟨u1, u2, u3, u4, u5, u6, u7⟩ := hU.2.2 i hi
    exact ⟨u1, u2, u3, u4, u5, u6, fun j k g hj => ⟨by have := (u7 j k g hj).1; omega, (u7 j k g hj).2⟩⟩
  · have := K u' hu'
    obtain ⟨fc, fb, fn, fr, a1, a2, a3, a4, a5, a6, a7, a8, a9, a10, a11, a12, a13, a14, a15, a16, a17, a18, a19, a20, a21⟩ := u'
    exact this
theorem cn_send {post : Int32 → St2 → Prop} {u : St2} {q : cn_Q} {n m T : Nat} {C : Nat → Bool} {B : Nat → Nat → Prop} {R : Nat → Bool} {H : Nat → List (Nat × Nat)} {A : Nat → Int32} {best : Nat} {rt : List (Nat × Nat)} {x0 x1 x2 : Int32} (hq : cn_ok q) (hI : cn_I q n m T C B R H A u) (hm : m < 3) (hF : cn_FR q n C B (cn_z q m) (cn_a q) T rt best) (hb : rt = [] ∨ best ≤ cn_l m) (hl : rt.length ≤ 9) (K : ∀ u', cn_I q n (m + 1) T C (cn_Bs (cn_z q m) rt B) (cn_u R m (!rt.isEmpty)) (cn_u H m rt) A u' → post (nI m) u') (e0 : x0 = nI (6 * cn_a q + cn_b q)) (e1 : x1 = nI (cn_z q m)) (e2 : x2 = nI (cn_l m)) : wpX_send post u x0 x1 x2 := by
  subst e0 e1 e2
  obtain ⟨fc, fb, fn, fr, a1, a2, a3, a4, a5, a6, a7, a8, a9, a10, a11, a12, a13, a14, a15, a16, a17, a18, a19, a20, a21⟩ := u
  obtain ⟨h1, h2, h3, h4, h5, hA, hU⟩ := hI
  subst h1 h2 h3 h5
  have hz := cn_z9 hq m
  have qa := hq.1
  have qb := hq.2.2.1
  have qab := hq.2.2.2.2.1
  have cm : (nI m).toNatClampNeg = m := nI_clamp (by omega)
  have im : vp_in (nI m) 10 := pk_in m 10 (by omega)
  unfold wpX_send
  refine cn_ends qa qb qab (br_f (by decide) (cn_size hz.1 (by omega) (br_f (by decide) (pk_lt m 10 (fun _ => nm_r (nI_1 m) ?_) (fun z => absurd z (by omega))))))
  refine And.intro (by decide) (And.intro im (nm_e (And.intro (by decide) (And.intro im (nm_e (And.intro im (nm_e (And.intro im (nm_e (And.intro im (nm_e ?_)))))))))))
  have e1 : nI (6 * cn_a q + cn_b q) / 6 = nI (cn_a q) := by
    rw [show (6 : Int32) = nI 6 from rfl, pk_div (by omega) (by omega) (by omega), show (6 * cn_a q + cn_b q) / 6 = cn_a q by omega]
  have e2 : nI (6 * cn_a q + cn_b q) - nI (6 * cn_a q + cn_b q) / 6 * 6 = nI (cn_b q) := by
    rw [show (6 : Int32) = nI 6 from rfl, pk_rem (by omega) (by omega) (by omega), show (6 * cn_a q + cn_b q) % 6 = cn_b q by omega]
  rw [cm, e2, e1]
  refine cn_plan (q := q) (n := n) (m := m + 1) (T := T) (C := C) (B := B) (R := R) (H := cn_u H m []) (A := a14) (i := m) (rt := rt) (best := best) hq ⟨rfl, rfl, rfl, h4, rfl, hA, ⟨by omega, hU.2.1, fun i hi => ?_⟩⟩ (by omega) ?_ ?_ hb ?_ (fun u' hu' => ?_)
  · by_cases e : i = m
    · subst e
      rw [cn_us, pk_us, pk_us, pk_us, pk_us, pk_us]
      exact ⟨rfl, rfl, rfl, rfl, rfl, by decide, fun j k g hj => nomatch hj⟩
    · rw [cn_un e, pk_un e, pk_un e, pk_un e, pk_un e, pk_un e]
      exact hU.2.2 i (by omega)
  · rw [cn_us]
    exact qab
  · rw [cn_us]
    exact hF
  · rw [cn_us]
    show 0 + rt.length ≤ 9
    omega
  · have := K u' (cn_I_R hu' (fun i _ => rfl) (fun i _ => by
      by_cases e : i = m
      · rw [e, cn_us, cn_us, cn_us]
        rfl
      · rw [cn_un e, cn_un e, cn_un e]))
    obtain ⟨fc, fb, fn, fr, a1, a2, a3, a4, a5, a6, a7, a8, a9, a10, a11, a12, a13, a14, a15, a16, a17, a18, a19, a20, a21⟩ := u'
    exact this
theorem cn_pass {post : Int32 → St2 → Prop} {u : St2} {q : cn_Q} {n m T : Nat} {C : Nat → Bool} {B : Nat → Nat → Prop} {R : Nat → Bool} {H : Nat → List (Nat × Nat)} {A : Nat → Int32} {x : Nat} {x0 : Int32} (hI : cn_I q n m T C B R H A u) (hx : x ≤ 200) (hT : T + x ≤ 300) (K : ∀ u', cn_I q n m (T + x) C B R H A u' → post (nI (T + x)) u') (e0 : x0 = nI x := by rfl) : wpX_pass post u x0 := by
  subst e0
  obtain ⟨fc, fb, fn, fr, a1, a2, a3, a4, a5, a6, a7, a8, a9, a10, a11, a12, a13, a14, a15, a16, a17, a18, a19, a20, a21⟩ := u
  obtain ⟨h1, h2, h3, h4, h5, hA, hU⟩ := hI
  subst h1 h2 h3 h5
  exact pk_lt x 0 (fun z => absurd z (by omega)) (fun _ => pk_le x 200 (fun _ => nm_r (nI_add T x) (K _ ⟨rfl, rfl, rfl, hT, rfl, hA, hU⟩)) (fun z => absurd z (by omega)))
/-- the first booking on a contact that has not gone out wholly -/
def cn_ob (k tk T : Nat) : List (Nat × Nat) → Nat → Option Nat
  | [], _ => none
  | p :: l, j => if p.1 = k ∧ T < p.2 + tk then some j else cn_ob k tk T l (j + 1)
theorem cn_dr {α : Type} {L l : List α} {j : Nat} {p : α} (h : L.drop j = p :: l) : L[j]? = some p ∧ L.drop (j + 1) = l ∧ j < L.length := by
  have h1 : (L.drop j)[0]? = some p := by rw [h]; rfl
  rw [List.getElem?_drop, Nat.add_zero] at h1
  refine ⟨h1, ?_, ?_⟩
  · rw [← List.tail_drop, h]
    rfl
  · rcases Nat.lt_or_ge j L.length with z | z
    · exact z
    · rw [List.getElem?_eq_none z] at h1
      exact nomatch h1
theorem cn_obw {post : Int32 → Prop} {fc fb fr : Int32} {a1 a2 a3 a4 a5 a6 a7 a8 a9 a10 a11 a12 a13 a14 a15 a16 a17 a18 a19 a20 a21 : Nat → Int32} {q : cn_Q} {n m T i k : Nat} {C : Nat → Bool} {B : Nat → Nat → Prop} {R : Nat → Bool} {H : Nat → List (Nat × Nat)} {x0 x1 : Int32} (hq : cn_ok q) (hA : cn_A q n C B a1 a2 a3 a4 a5 a6 a7 a8) (hU : cn_U q n m R H a9 a10 a11 a12 a13 a15 a16 a17) (hT : T ≤ 300) (hi : i < m) (hk : k < n) (K : post ((cn_ob k (cn_t k (cn_z q i)) T (H i) 0).elim (-1) nI)) (e0 : x0 = nI i := by rfl) (e1 : x1 = nI k := by rfl) : wpX_openBooking post (fc, fb, nI T, fr, a1, a2, a3, a4, a5, a6, a7, a8, a9, a10, a11, a12, a13, a14, a15, a16, a17, a18, a19, a20, a21) x0 x1 := by
  subst e0 e1
  have hm := hU.1
  have hn := hA.1
  obtain ⟨u1, u2, u3, u4, u5, u6, u7⟩ := hU.2.2 i hi
  have hz := cn_z9 hq i
  have ht := cn_t30 (k := k) (z := cn_z q i) hz.1 (by omega)
  have ii : vp_in (nI i) 10 := pk_in i 10 (by omega)
  have e15 : a15 (nI i).toNatClampNeg = nI (H i).length := cn_at u5
  have main : ∀ l j, (H i).drop j = l → j ≤ (H i).length → post ((cn_ob k (cn_t k (cn_z q i)) T l j).elim (-1) nI) → wX_openBooking_2 post (nI i) (nI k) fc fb (nI T) fr a1 a2 a3 a4 a5 a6 a7 a8 a9 a10 a11 a12 a13 a14 a15 a16 a17 a18 a19 a20 a21 (l.length + 1) (nI j) := by
    intro l
    induction l with
    | nil =>
      intro j hj hjl hp
      have hj' : (H i).length ≤ j := List.drop_eq_nil_iff.mp hj
      exact And.intro ii (pk_le (H i).length j (fun _ => hp) (fun z => absurd z (by omega)) e15)
    | cons p l ih =>
      intro j hj hjl hp
      obtain ⟨d1, d2, d3⟩ := cn_dr hj
      obtain ⟨k', g⟩ := p
      obtain ⟨v1, v2, v3, v4⟩ := u7 j k' g d1
      have e17 := cn_at v4 (cn_iy i j)
      have e16 := cn_at v3 (cn_iy i j)
      have iix : vp_in (100 * nI i + nI j) 1000 := pk_in (100 * i + j) 1000 (by omega) (cn_iy i j)
      have hp' : post ((if k' = k ∧ T < g + cn_t k (cn_z q i) then some j else cn_ob k (cn_t k (cn_z q i)) T l (j + 1)).elim (-1) nI) := hp
      refine And.intro ii (pk_le (H i).length j (fun z => absurd z (by omega)) (fun _ => And.intro iix (And.intro ii ?_)) e15)
      refine cn_tf (k := k) (z := cn_z q i) (by omega) (hA.2.2.1 k hk).2.2.2.2.1 (cn_R9 k) (by omega) ?_ rfl (cn_at u3)
      refine pk_le (g + cn_t k (cn_z q i)) T (fun hle => ?_) (fun hlt => ?_) (by rw [e17, nI_add]; rfl)
      · rw [if_neg (by omega)] at hp'
        have hrec := ih (j + 1) d2 (by omega) hp'
        exact And.intro iix (pk_eq k' k (fun _ => br_t rfl (nm_r (nI_1 j) hrec)) (fun _ => nm_r (nI_1 j) hrec) e16)
      · refine And.intro iix (pk_eq k' k (fun e => br_f (by decide) ?_) (fun e => nm_r (nI_1 j) ?_) e16)
        · rw [if_pos ⟨e, hlt⟩] at hp'
          exact hp'
        · rw [if_neg (fun z => e z.1)] at hp'
          exact ih (j + 1) d2 (by omega) hp'
  exact ⟨_, main (H i) 0 rfl (by omega) K⟩
/-- bookings are given up -/
def cn_Bc (z : Nat) : List (Nat × Nat) → (Nat → Nat → Prop) → (Nat → Nat → Prop)
  | [], B => B
  | p :: l, B => cn_Bc z l (cn_B0 B p.1 p.2 (cn_t p.1 z))
theorem cn_lose {post : St2 → Prop} {fc fb fn fr : Int32} {a1 a2 a3 a4 a5 a6 a7 a8 a9 a10 a11 a12 a13 a14 a15 a16 a17 a18 a19 a20 a21 : Nat → Int32} {q : cn_Q} {n m i j0 : Nat} {C : Nat → Bool} {B : Nat → Nat → Prop} {R : Nat → Bool} {H : Nat → List (Nat × Nat)} {x0 x1 : Int32} (hq : cn_ok q) (hA : cn_A q n C B a1 a2 a3 a4 a5 a6 a7 a8) (hU : cn_U q n m R H a9 a10 a11 a12 a13 a15 a16 a17) (hi : i < m) (hj0 : j0 ≤ (H i).length) (K : ∀ x8 x15, cn_A q n C (cn_Bc (cn_z q i) ((H i).drop j0) B) a1 a2 a3 a4 a5 a6 a7 x8 → cn_U q n m R (cn_u H i ((H i).take j0)) a9 a10 a11 a12 a13 x15 a16 a17 → post (fc, fb, fn, fr, a1, a2, a3, a4, a5, a6, a7, x8, a9, a10, a11, a12, a13, a14, x15, a16, a17, a18, a19, a20, a21)) (e0 : x0 = nI i := by rfl) (e1 : x1 = nI j0 := by rfl) : wpX_loseFrom post (fc, fb, fn, fr, a1, a2, a3, a4, a5, a6, a7, a8, a9, a10, a11, a12, a13, a14, a15, a16, a17, a18, a19, a20, a21) x0 x1 := by
  subst e0 e1
  have hm := hU.1
  obtain ⟨u1, u2, u3, u4, u5, u6, u7⟩ := hU.2.2 i hi
  have hz := cn_z9 hq i
  have ii : vp_in (nI i) 10 := pk_in i 10 (by omega)
  have e15 : a15 (nI i).toNatClampNeg = nI (H i).length := cn_at u5
  have ci : (nI i).toNatClampNeg = i := nI_clamp (by omega)
  have hUt : cn_U q n m R (cn_u H i ((H i).take j0)) a9 a10 a11 a12 a13 (upd a15 i (nI j0)) a16 a17 := by
    refine ⟨hm, hU.2.1, fun x hx => ?_⟩
    by_cases e : x = i
    · subst e
      rw [cn_us, pk_us]
      refine ⟨u1, u2, u3, u4, by rw [List.length_take, show min j0 (H x).length = j0 by omega], by rw [List.length_take]; omega, fun j k g hj => ?_⟩
      rw [List.getElem?_take] at hj
      by_cases hjj : j < j0
      · rw [if_pos hjj] at hj
        exact u7 j k g hj
      · rw [if_neg hjj] at hj
        exact nomatch hj
    · rw [cn_un e, pk_un e]
      exact hU.2.2 x hx
  have main : ∀ l j (B : Nat → Nat → Prop) (x8 : Nat → Int32), (H i).drop j = l → j ≤ (H i).length → cn_A q n C B a1 a2 a3 a4 a5 a6 a7 x8 → (∀ y8, cn_A q n C (cn_Bc (cn_z q i) l B) a1 a2 a3 a4 a5 a6 a7 y8 → post (fc, fb, fn, fr, a1, a2, a3, a4, a5, a6, a7, y8, a9, a10, a11, a12, a13, a14, upd a15 i (nI j0), a16, a17, a18, a19, a20, a21)) → wX_loseFrom_2 post (nI i) (nI j0) (l.length + 1) (nI j) fc fb fn fr a1 a2 a3 a4 a5 a6 a7 x8 a9 a10 a11 a12 a13 a14 a15 a16 a17 a18 a19 a20 a21 := by
    intro l
    induction l with
    | nil =>
      intro j B x8 hj hjl hA K
      have hj' : (H i).length ≤ j := List.drop_eq_nil_iff.mp hj
      exact And.intro ii (pk_le (H i).length j (fun _ => And.intro ii (nm_r (by rw [ci]) (K x8 hA))) (fun z => absurd z (by omega)) e15)
    | cons p l ih =>
      intro j B x8 hj hjl hA K
      obtain ⟨d1, d2, d3⟩ := cn_dr hj
      obtain ⟨k, g⟩ := p
      obtain ⟨v1, v2, v3, v4⟩ := u7 j k g d1
      have e17 := cn_at v4 (cn_iy i j)
      have iix : vp_in (100 * nI i + nI j) 1000 := pk_in (100 * i + j) 1000 (by omega) (cn_iy i j)
      have hn := hA.1
      refine And.intro ii (pk_le (H i).length j (fun z => absurd z (by omega)) (fun _ => And.intro iix (nm_r (cn_at v3 (cn_iy i j)) (And.intro ii ?_))) e15)
      refine cn_tf (k := k) (z := cn_z q i) (by omega) (hA.2.2.1 k v1).2.2.2.2.1 (cn_R9 k) (by omega) (And.intro iix ?_) rfl (cn_at u3)
      refine cn_sb (k := k) (g := g) (t := cn_t k (cn_z q i)) (by omega) (by omega) (fun y8 h1 h2 => nm_r (nI_1 j) ?_) rfl e17 rfl
      exact ih (j + 1) (cn_B0 B k g (cn_t k (cn_z q i))) y8 d2 (by omega) (cn_A_0 hA (by omega) (by omega) h1 h2) K
  exact ⟨_, main ((H i).drop j0) j0 B a8 rfl hj0 hA (fun y8 h => K y8 _ h hUt)⟩
end
section
/-- cancel's first loop, at bundle i with x hit so far; its second, at bundle i -/
def cn_c30 (post : Int32 → St2 → Prop) (k f x i : Nat) (u : St2) : Prop := match u with
  | (fc, fb, fn, fr, a1, a2, a3, a4, a5, a6, a7, a8, a9, a10, a11, a12, a13, a14, a15, a16, a17, a18, a19, a20, a21) => wX_cancel_30 post (nI k) f (nI x) (nI i) fc fb fn fr a1 a2 a3 a4 a5 a6 a7 a8 a9 a10 a11 a12 a13 a14 a15 a16 a17 a18 a19 a20 a21
def cn_c85 (post : Int32 → St2 → Prop) (x f i : Nat) (u : St2) : Prop := match u with
  | (fc, fb, fn, fr, a1, a2, a3, a4, a5, a6, a7, a8, a9, a10, a11, a12, a13, a14, a15, a16, a17, a18, a19, a20, a21) => wX_cancel_85 post (nI x) f (nI i) fc fb fn fr a1 a2 a3 a4 a5 a6 a7 a8 a9 a10 a11 a12 a13 a14 a15 a16 a17 a18 a19 a20 a21
theorem cn_cancel {post : Int32 → St2 → Prop} {u : St2} {q : cn_Q} {n m T : Nat} {C : Nat → Bool} {B : Nat → Nat → Prop} {R : Nat → Bool} {H : Nat → List (Nat × Nat)} {A : Nat → Int32} {k : Nat} {x0 : Int32} (hI : cn_I q n m T C B R H A u) (hk : k < n) (hC : C k = false) (K : ∀ u', cn_I q n m T (cn_u C k true) B R H A u' → ∃ f, cn_c30 post k f 0 0 u') (e0 : x0 = nI k := by rfl) : wpX_cancel post u x0 := by
  subst e0
  obtain ⟨fc, fb, fn, fr, a1, a2, a3, a4, a5, a6, a7, a8, a9, a10, a11, a12, a13, a14, a15, a16, a17, a18, a19, a20, a21⟩ := u
  obtain ⟨h1, h2, h3, h4, h5, hA, hU⟩ := hI
  subst h1 h2 h3 h5
  have hn := hA.1
  have ck : (nI k).toNatClampNeg = k := nI_clamp (by omega)
  have ik : vp_in (nI k) 10 := pk_in k 10 (by omega)
  unfold wpX_cancel
  refine cn_con hk hn (br_f (by decide) (And.intro ik (br_t (by rw [cn_at (hA.2.1 k (by omega))]; exact cn_i0 hC) (And.intro ik (nm_r (e' := upd a1 k 1) (by rw [ck]) ?_)))))
  refine K (nI n, nI m, nI T, fr, upd a1 k 1, a2, a3, a4, a5, a6, a7, a8, a9, a10, a11, a12, a13, a14, a15, a16, a17, a18, a19, a20, a21) ⟨rfl, rfl, rfl, h4, rfl, ⟨hn, fun j hj => ?_, hA.2.2⟩, hU⟩
  by_cases e : j = k
  · rw [e, pk_us, cn_us]
    rfl
  · rw [pk_un e, cn_un e]
    exact hA.2.1 j hj
theorem cn_c30_x {post : Int32 → St2 → Prop} {u : St2} {q : cn_Q} {n m T : Nat} {C : Nat → Bool} {B : Nat → Nat → Prop} {R : Nat → Bool} {H : Nat → List (Nat × Nat)} {A : Nat → Int32} {k f x : Nat} (hI : cn_I q n m T C B R H A u) (K : ∃ f, cn_c85 post x f 0 u) : cn_c30 post k (f + 1) x m u := by
  obtain ⟨fc, fb, fn, fr, a1, a2, a3, a4, a5, a6, a7, a8, a9, a10, a11, a12, a13, a14, a15, a16, a17, a18, a19, a20, a21⟩ := u
  obtain ⟨h1, h2, h3, h4, h5, hA, hU⟩ := hI
  subst h1 h2 h3 h5
  have hm := hU.1
  exact pk_le m m (fun _ => K) (fun z => absurd z (by omega))
theorem cn_c30_n {post : Int32 → St2 → Prop} {u : St2} {q : cn_Q} {n m T : Nat} {C : Nat → Bool} {B : Nat → Nat → Prop} {R : Nat → Bool} {H : Nat → List (Nat × Nat)} {A : Nat → Int32} {k f x i : Nat} (hq : cn_ok q) (hI : cn_I q n m T C B R H A u) (hk : k < n) (hi : i < m) (ho : cn_ob k (cn_t k (cn_z q i)) T (H i) 0 = none) (K : ∀ u', cn_I q n m T C B R H (upd A i 0) u' → cn_c30 post k f x (i + 1) u') : cn_c30 post k (f + 1) x i u := by
  obtain ⟨fc, fb, fn, fr, a1, a2, a3, a4, a5, a6, a7, a8, a9, a10, a11, a12, a13, a14, a15, a16, a17, a18, a19, a20, a21⟩ := u
  obtain ⟨h1, h2, h3, h4, h5, hA, hU⟩ := hI
  subst h1 h2 h3 h5
  have hm := hU.1
  have ci : (nI i).toNatClampNeg = i := nI_clamp (by omega)
  refine pk_le m i (fun z => absurd z (by omega)) (fun _ => cn_obw hq hA hU h4 hi hk ?_)
  rw [ho]
  refine br_t (by decide) (And.intro (pk_in i 10 (by omega)) (nm_r (e' := upd a14 i 0) (by rw [ci]; rfl) (br_t (by decide) (nm_r (nI_1 i) ?_))))
  exact K (nI n, nI m, nI T, fr, a1, a2, a3, a4, a5, a6, a7, a8, a9, a10, a11, a12, a13, upd a14 i 0, a15, a16, a17, a18, a19, a20, a21) ⟨rfl, rfl, rfl, h4, rfl, hA, hU⟩
theorem cn_ob_le {k tk T : Nat} : ∀ (l : List (Nat × Nat)) j x, cn_ob k tk T l j = some x → x < j + l.length := by
  intro l
  induction l with
  | nil => intro j x h; exact nomatch h
  | cons p l ih =>
    intro j x h
    have h' : (if p.1 = k ∧ T < p.2 + tk then some j else cn_ob k tk T l (j + 1)) = some x := h
    show x < j + (l.length + 1)
    split at h'
    · have := Option.some.inj h'
      omega
    · have := ih (j + 1) x h'
      omega
theorem cn_c30_y {post : Int32 → St2 → Prop} {u : St2} {q : cn_Q} {n m T : Nat} {C : Nat → Bool} {B : Nat → Nat → Prop} {R : Nat → Bool} {H : Nat → List (Nat × Nat)} {A : Nat → Int32} {k f x i j : Nat} (hq : cn_ok q) (hI : cn_I q n m T C B R H A u) (hk : k < n) (hi : i < m) (ho : cn_ob k (cn_t k (cn_z q i)) T (H i) 0 = some j) (K : ∀ u', cn_I q n m T C (cn_Bc (cn_z q i) ((H i).drop j) B) R (cn_u H i ((H i).take j)) (upd A i 1) u' → cn_c30 post k f (x + 1) (i + 1) u') : cn_c30 post k (f + 1) x i u := by
  obtain ⟨fc, fb, fn, fr, a1, a2, a3, a4, a5, a6, a7, a8, a9, a10, a11, a12, a13, a14, a15, a16, a17, a18, a19, a20, a21⟩ := u
  obtain ⟨h1, h2, h3, h4, h5, hA, hU⟩ := hI
  subst h1 h2 h3 h5
  have hm := hU.1
  have hl := (hU.2.2 i hi).2.2.2.2.2.1
  have hj := cn_ob_le _ _ _ ho
  have ci : (nI i).toNatClampNeg = i := nI_clamp (by omega)
  refine pk_le m i (fun z => absurd z (by omega)) (fun _ => cn_obw hq hA hU h4 hi hk ?_)
  rw [ho]
  refine pk_lt j 0 (fun z => absurd z (by omega)) (fun _ => And.intro (pk_in i 10 (by omega)) (nm_r (e' := upd a14 i 1) (by rw [ci]; rfl) (pk_lt j 0 (fun z => absurd z (by omega)) (fun _ => ?_))))
  refine cn_lose (j0 := j) hq hA hU hi (by omega) (fun x8 x15 hA' hU' => nm_r (nI_1 x) (nm_r (nI_1 i) ?_))
  exact K (nI n, nI m, nI T, fr, a1, a2, a3, a4, a5, a6, a7, x8, a9, a10, a11, a12, a13, upd a14 i 1, x15, a16, a17, a18, a19, a20, a21) ⟨rfl, rfl, rfl, h4, rfl, hA', hU'⟩
theorem cn_c85_x {post : Int32 → St2 → Prop} {u : St2} {q : cn_Q} {n m T : Nat} {C : Nat → Bool} {B B' : Nat → Nat → Prop} {R R' : Nat → Bool} {H H' : Nat → List (Nat × Nat)} {A : Nat → Int32} {f x : Nat} (hI : cn_I q n m T C B R H A u) (hR : cn_RT q n m T C A B R H B' R' H') (K : ∀ u', cn_I q n m T C B' R' H' A u' → post (nI x) u') : cn_c85 post x (f + 1) m u := by
  have hI' := hI
  obtain ⟨fc, fb, fn, fr, a1, a2, a3, a4, a5, a6, a7, a8, a9, a10, a11, a12, a13, a14, a15, a16, a17, a18, a19, a20, a21⟩ := u
  obtain ⟨h1, h2, h3, h4, h5, hA, hU⟩ := hI
  subst h1 h2 h3 h5
  have hm := hU.1
  refine pk_le m m (fun _ => cn_retry (hR _ _ hI' (fun u' hu' => ?_))) (fun z => absurd z (by omega))
  have := K u' hu'
  obtain ⟨fc, fb, fn, fr, a1, a2, a3, a4, a5, a6, a7, a8, a9, a10, a11, a12, a13, a14, a15, a16, a17, a18, a19, a20, a21⟩ := u'
  exact this
theorem cn_c85_n {post : Int32 → St2 → Prop} {u : St2} {q : cn_Q} {n m T : Nat} {C : Nat → Bool} {B : Nat → Nat → Prop} {R : Nat → Bool} {H : Nat → List (Nat × Nat)} {A : Nat → Int32} {f x i : Nat} (hI : cn_I q n m T C B R H A u) (hi : i < m) (ha : A i = 0) (K : cn_c85 post x f (i + 1) u) : cn_c85 post x (f + 1) i u := by
  obtain ⟨fc, fb, fn, fr, a1, a2, a3, a4, a5, a6, a7, a8, a9, a10, a11, a12, a13, a14, a15, a16, a17, a18, a19, a20, a21⟩ := u
  obtain ⟨h1, h2, h3, h4, h5, hA, hU⟩ := hI
  subst h1 h2 h3 h5
  have hm := hU.1
  exact pk_le m i (fun z => absurd z (by omega)) (fun _ => And.intro (pk_in i 10 (by omega)) (br_t (cn_at ha) (nm_r (nI_1 i) K)))
theorem cn_c85_y {post : Int32 → St2 → Prop} {u : St2} {q : cn_Q} {n m T : Nat} {C : Nat → Bool} {B : Nat → Nat → Prop} {R : Nat → Bool} {H : Nat → List (Nat × Nat)} {A : Nat → Int32} {f x i best : Nat} {rt : List (Nat × Nat)} (hq : cn_ok q) (hI : cn_I q n m T C B R H A u) (hi : i < m) (ha : A i = 1) (hnd : cn_nd q (H i) ≠ cn_b q) (hF : cn_FR q n C B (cn_z q i) (cn_nd q (H i)) (cn_ry q T i (H i)) rt best) (hb : rt = [] ∨ best ≤ cn_l i) (hl : (H i).length + rt.length ≤ 9)
    (K : ∀ u', cn_I q n m T C (cn_Bs (cn_z q i) rt B) (cn_u R i (!rt.isEmpty)) (cn_u H i (H i ++ rt)) A u' → cn_c85 post x f (i + 1) u') : cn_c85 post x (f + 1) i u := by
  have hI' := hI
  obtain ⟨fc, fb, fn, fr, a1, a2, a3, a4, a5, a6, a7, a8, a9, a10, a11, a12, a13, a14, a15, a16, a17, a18, a19, a20, a21⟩ := u
  obtain ⟨h1, h2, h3, h4, h5, hA, hU⟩ := hI
  subst h1 h2 h3 h5
  have hm := hU.1
  refine pk_le m i (fun z => absurd z (by omega)) (fun _ => And.intro (pk_in i 10 (by omega)) (br_f (by rw [cn_at ha]; decide) ?_))
  refine cn_plan hq hI' hi hnd hF hb hl (fun u' hu' => ?_)
  have := K u' hu'
  obtain ⟨fc, fb, fn, fr, a1, a2, a3, a4, a5, a6, a7, a8, a9, a10, a11, a12, a13, a14, a15, a16, a17, a18, a19, a20, a21⟩ := u'
  exact nm_r (nI_1 i) this
theorem cn_st0 {post : Int32 → Prop} {u : St2} {q : cn_Q} {n m T : Nat} {C : Nat → Bool} {B : Nat → Nat → Prop} {R : Nat → Bool} {H : Nat → List (Nat × Nat)} {A : Nat → Int32} {i : Nat} {x0 : Int32} (hI : cn_I q n m T C B R H A u) (hi : i < m) (hR : R i = false) (K : post 0) (e0 : x0 = nI i := by rfl) : wpX_state post u x0 := by
  subst e0
  obtain ⟨fc, fb, fn, fr, a1, a2, a3, a4, a5, a6, a7, a8, a9, a10, a11, a12, a13, a14, a15, a16, a17, a18, a19, a20, a21⟩ := u
  obtain ⟨h1, h2, h3, h4, h5, hA, hU⟩ := hI
  subst h1 h2 h3 h5
  have hm := hU.1
  unfold wpX_state
  exact cn_bun hi hm (br_f (by decide) (And.intro (pk_in i 10 (by omega)) (br_t (by rw [cn_at (hU.2.1 i (by omega))]; exact cn_i0 hR) K)))
theorem cn_lenp {l : List (Nat × Nat)} {j : Nat} {p : Nat × Nat} (h : l[j]? = some p) : j < l.length := by
  rcases Nat.lt_or_ge j l.length with z | z
  · exact z
  · rw [List.getElem?_eq_none z] at h
    exact nomatch h
theorem cn_st {post : Int32 → Prop} {u : St2} {q : cn_Q} {n m T : Nat} {C : Nat → Bool} {B : Nat → Nat → Prop} {R : Nat → Bool} {H : Nat → List (Nat × Nat)} {A : Nat → Int32} {i k g : Nat} {x0 : Int32} (hq : cn_ok q) (hI : cn_I q n m T C B R H A u) (hi : i < m) (hR : R i = true) (hl : (H i)[(H i).length - 1]? = some (k, g)) (K1 : T < g + cn_t k (cn_z q i) + cn_D k → post 1) (K2 : g + cn_t k (cn_z q i) + cn_D k ≤ T → post 2) (e0 : x0 = nI i := by rfl) : wpX_state post u x0 := by
  subst e0
  obtain ⟨fc, fb, fn, fr, a1, a2, a3, a4, a5, a6, a7, a8, a9, a10, a11, a12, a13, a14, a15, a16, a17, a18, a19, a20, a21⟩ := u
  obtain ⟨h1, h2, h3, h4, h5, hA, hU⟩ := hI
  subst h1 h2 h3 h5
  have hm := hU.1
  have hlt := cn_lenp hl
  have hD := cn_D9 k
  obtain ⟨u1, u2, u3, u4, u5, u6, u7⟩ := hU.2.2 i hi
  have hv := (u7 _ k g hl).2.1
  unfold wpX_state
  refine cn_bun hi hm (br_f (by decide) (And.intro (pk_in i 10 (by omega)) (br_f (by rw [cn_at (hU.2.1 i (by omega))]; exact cn_i1 hR) (And.intro (pk_in i 10 (by omega)) ?_))))
  refine cn_cib hq hA hU hi hl ?_ rfl (by rw [cn_at u5]; exact cn_pr (by omega))
  exact pk_lt T (g + cn_t k (cn_z q i) + cn_D k) K1 K2
theorem cn_arr {post : Int32 → Prop} {u : St2} {q : cn_Q} {n m T : Nat} {C : Nat → Bool} {B : Nat → Nat → Prop} {R : Nat → Bool} {H : Nat → List (Nat × Nat)} {A : Nat → Int32} {i k g : Nat} {x0 : Int32} (hq : cn_ok q) (hI : cn_I q n m T C B R H A u) (hi : i < m) (hR : R i = true) (hl : (H i)[(H i).length - 1]? = some (k, g)) (K : post (nI (g + cn_t k (cn_z q i) + cn_D k))) (e0 : x0 = nI i := by rfl) : wpX_arrival post u x0 := by
  subst e0
  obtain ⟨fc, fb, fn, fr, a1, a2, a3, a4, a5, a6, a7, a8, a9, a10, a11, a12, a13, a14, a15, a16, a17, a18, a19, a20, a21⟩ := u
  obtain ⟨h1, h2, h3, h4, h5, hA, hU⟩ := hI
  subst h1 h2 h3 h5
  have hm := hU.1
  have hlt := cn_lenp hl
  obtain ⟨u1, u2, u3, u4, u5, u6, u7⟩ := hU.2.2 i hi
  unfold wpX_arrival
  refine cn_bun hi hm (br_f (by decide) (And.intro (pk_in i 10 (by omega)) (br_f (by rw [cn_at (hU.2.1 i (by omega))]; exact cn_i1 hR) (And.intro (pk_in i 10 (by omega)) ?_))))
  exact cn_cib hq hA hU hi hl K rfl (by rw [cn_at u5]; exact cn_pr (by omega))
theorem cn_arr0 {post : Int32 → Prop} {u : St2} {q : cn_Q} {n m T : Nat} {C : Nat → Bool} {B : Nat → Nat → Prop} {R : Nat → Bool} {H : Nat → List (Nat × Nat)} {A : Nat → Int32} {i : Nat} {x0 : Int32} (hI : cn_I q n m T C B R H A u) (hi : i < m) (hR : R i = false) (K : post (-2)) (e0 : x0 = nI i := by rfl) : wpX_arrival post u x0 := by
  subst e0
  obtain ⟨fc, fb, fn, fr, a1, a2, a3, a4, a5, a6, a7, a8, a9, a10, a11, a12, a13, a14, a15, a16, a17, a18, a19, a20, a21⟩ := u
  obtain ⟨h1, h2, h3, h4, h5, hA, hU⟩ := hI
  subst h1 h2 h3 h5
  have hm := hU.1
  unfold wpX_arrival
  exact cn_bun hi hm (br_f (by decide) (And.intro (pk_in i 10 (by omega)) (br_t (by rw [cn_at (hU.2.1 i (by omega))]; exact cn_i0 hR) K)))
theorem cn_hops {post : Int32 → Prop} {u : St2} {q : cn_Q} {n m T : Nat} {C : Nat → Bool} {B : Nat → Nat → Prop} {R : Nat → Bool} {H : Nat → List (Nat × Nat)} {A : Nat → Int32} {i : Nat} {x0 : Int32} (hI : cn_I q n m T C B R H A u) (hi : i < m) (K : post (nI (H i).length)) (e0 : x0 = nI i := by rfl) : wpX_hops post u x0 := by
  subst e0
  obtain ⟨fc, fb, fn, fr, a1, a2, a3, a4, a5, a6, a7, a8, a9, a10, a11, a12, a13, a14, a15, a16, a17, a18, a19, a20, a21⟩ := u
  obtain ⟨h1, h2, h3, h4, h5, hA, hU⟩ := hI
  subst h1 h2 h3 h5
  have hm := hU.1
  unfold wpX_hops
  refine cn_bun hi hm (br_f (by decide) (And.intro (pk_in i 10 (by omega)) ?_))
  rw [cn_at (hU.2.2 i hi).2.2.2.2.1]
  exact K
theorem cn_hopw {post : Int32 → Prop} {u : St2} {q : cn_Q} {n m T : Nat} {C : Nat → Bool} {B : Nat → Nat → Prop} {R : Nat → Bool} {H : Nat → List (Nat × Nat)} {A : Nat → Int32} {i j k g : Nat} {x0 x1 : Int32} (hI : cn_I q n m T C B R H A u) (hi : i < m) (hl : (H i)[j]? = some (k, g)) (K : post (nI (1000 * k + g))) (e0 : x0 = nI i := by rfl) (e1 : x1 = nI j := by rfl) : wpX_hop post u x0 x1 := by
  subst e0 e1
  obtain ⟨fc, fb, fn, fr, a1, a2, a3, a4, a5, a6, a7, a8, a9, a10, a11, a12, a13, a14, a15, a16, a17, a18, a19, a20, a21⟩ := u
  obtain ⟨h1, h2, h3, h4, h5, hA, hU⟩ := hI
  subst h1 h2 h3 h5
  have hm := hU.1
  have hlt := cn_lenp hl
  obtain ⟨u1, u2, u3, u4, u5, u6, u7⟩ := hU.2.2 i hi
  obtain ⟨v1, v2, v3, v4⟩ := u7 j k g hl
  have iix : vp_in (100 * nI i + nI j) 1000 := pk_in (100 * i + j) 1000 (by omega) (cn_iy i j)
  unfold wpX_hop
  refine cn_bun hi hm (br_f (by decide) (pk_lt j 0 (fun z => absurd z (by omega)) (fun _ => And.intro (pk_in i 10 (by omega)) (pk_lt j (H i).length (fun _ => And.intro iix (And.intro iix ?_)) (fun z => absurd z (by omega)) rfl (cn_at u5)))))
  rw [cn_at v3 (cn_iy i j), cn_at v4 (cn_iy i j), show (1000 : Int32) = nI 1000 from rfl, pk_mul, nI_add]
  exact K
/-- where a bundle is -/
def cn_pl (q : cn_Q) (T z e : Nat) : List (Nat × Nat) → Nat
  | [] => e
  | p :: l => if T < p.2 + cn_t p.1 z + cn_D p.1 then (if p.2 < T then 10 + p.1 else cn_fr q p.1) else cn_pl q T z e l
theorem cn_place {post : Int32 → Prop} {u : St2} {q : cn_Q} {n m T : Nat} {C : Nat → Bool} {B : Nat → Nat → Prop} {R : Nat → Bool} {H : Nat → List (Nat × Nat)} {A : Nat → Int32} {i : Nat} {x0 : Int32} (hq : cn_ok q) (hI : cn_I q n m T C B R H A u) (hi : i < m) (K : post (nI (cn_pl q T (cn_z q i) (cn_nd q (H i)) (H i)))) (e0 : x0 = nI i := by rfl) : wpX_place post u x0 := by
  subst e0
  obtain ⟨fc, fb, fn, fr, a1, a2, a3, a4, a5, a6, a7, a8, a9, a10, a11, a12, a13, a14, a15, a16, a17, a18, a19, a20, a21⟩ := u
  obtain ⟨h1, h2, h3, h4, h5, hA, hU⟩ := hI
  subst h1 h2 h3 h5
  have hm := hU.1
  have hn := hA.1
  have hz := cn_z9 hq i
  obtain ⟨u1, u2, u3, u4, u5, u6, u7⟩ := hU.2.2 i hi
  have ii : vp_in (nI i) 10 := pk_in i 10 (by omega)
  have e15 : a15 (nI i).toNatClampNeg = nI (H i).length := cn_at u5
  have main : ∀ l j, (H i).drop j = l → j ≤ (H i).length → post (nI (cn_pl q T (cn_z q i) (cn_nd q (H i)) l)) → wX_place_12 post (nI i) (nI n) (nI m) (nI T) fr a1 a2 a3 a4 a5 a6 a7 a8 a9 a10 a11 a12 a13 a14 a15 a16 a17 a18 a19 a20 a21 (l.length + 1) (nI j) := by
    intro l
    induction l with
    | nil =>
      intro j hj hjl hp
      have hj' : (H i).length ≤ j := List.drop_eq_nil_iff.mp hj
      exact And.intro ii (pk_le (H i).length j (fun _ => cn_last hq hA hU hi hp) (fun z => absurd z (by omega)) e15)
    | cons p l ih =>
      intro j hj hjl hp
      obtain ⟨d1, d2, d3⟩ := cn_dr hj
      obtain ⟨k, g⟩ := p
      obtain ⟨v1, v2, v3, v4⟩ := u7 j k g d1
      have e17 := cn_at v4 (cn_iy i j)
      have iix : vp_in (100 * nI i + nI j) 1000 := pk_in (100 * i + j) 1000 (by omega) (cn_iy i j)
      have hD := cn_D9 k
      have hp' : post (nI (if T < g + cn_t k (cn_z q i) + cn_D k then (if g < T then 10 + k else cn_fr q k) else cn_pl q T (cn_z q i) (cn_nd q (H i)) l)) := hp
      refine And.intro ii (pk_le (H i).length j (fun z => absurd z (by omega)) (fun _ => ?_) e15)
      refine cn_cib hq hA hU hi d1 ?_
      refine pk_le (g + cn_t k (cn_z q i) + cn_D k) T (fun hle => nm_r (nI_1 j) ?_) (fun hlt => ?_)
      · rw [if_neg (by omega)] at hp'
        exact ih (j + 1) d2 (by omega) hp'
      · rw [if_pos hlt] at hp'
        refine And.intro iix (nm_r (cn_at v3 (cn_iy i j)) (And.intro iix (pk_le T g (fun hle => And.intro (pk_in k 10 (by omega)) ?_) (fun hgt => ?_) rfl e17)))
        · rw [if_neg (by omega)] at hp'
          rw [cn_at (hA.2.2.1 k v1).1]
          exact hp'
        · rw [if_pos hgt] at hp'
          rw [show (10 : Int32) = nI 10 from rfl, nI_add]
          exact hp'
  unfold wpX_place
  exact cn_bun hi hm (br_f (by decide) ⟨_, main (H i) 0 rfl (by omega) K⟩)
theorem cn_bk0 {post : Int32 → Prop} {u : St2} {q : cn_Q} {n m T : Nat} {C : Nat → Bool} {B : Nat → Nat → Prop} {R : Nat → Bool} {H : Nat → List (Nat × Nat)} {A : Nat → Int32} {k : Nat} {x0 : Int32} (hI : cn_I q n m T C B R H A u) (hk : k < n) (hC : C k = true) (K : post (-2)) (e0 : x0 = nI k := by rfl) : wpX_booked post u x0 := by
  subst e0
  obtain ⟨fc, fb, fn, fr, a1, a2, a3, a4, a5, a6, a7, a8, a9, a10, a11, a12, a13, a14, a15, a16, a17, a18, a19, a20, a21⟩ := u
  obtain ⟨h1, h2, h3, h4, h5, hA, hU⟩ := hI
  subst h1 h2 h3 h5
  have hn := hA.1
  unfold wpX_booked
  exact cn_con hk hn (br_f (by decide) (And.intro (pk_in k 10 (by omega)) (br_f (by rw [cn_at (hA.2.1 k (by omega))]; exact cn_i1 hC) K)))
theorem cn_bk {post : Int32 → Prop} {u : St2} {q : cn_Q} {n m T : Nat} {C : Nat → Bool} {B : Nat → Nat → Prop} {R : Nat → Bool} {H : Nat → List (Nat × Nat)} {A : Nat → Int32} {k : Nat} {x0 : Int32} (cnt : Nat → Nat) (hI : cn_I q n m T C B R H A u) (hk : k < n) (hC : C k = false) (c0 : cnt 0 = 0) (c1 : ∀ t, t < 101 → B k t → cnt (t + 1) = cnt t + 1) (c2 : ∀ t, t < 101 → ¬ B k t → cnt (t + 1) = cnt t) (K : post (nI (cnt 101))) (e0 : x0 = nI k := by rfl) : wpX_booked post u x0 := by
  subst e0
  obtain ⟨fc, fb, fn, fr, a1, a2, a3, a4, a5, a6, a7, a8, a9, a10, a11, a12, a13, a14, a15, a16, a17, a18, a19, a20, a21⟩ := u
  obtain ⟨h1, h2, h3, h4, h5, hA, hU⟩ := hI
  subst h1 h2 h3 h5
  have hn := hA.1
  have main : ∀ f t, t ≤ 101 → f = 101 - t → wX_booked_26 post (nI k) (nI n) (nI m) (nI T) fr a1 a2 a3 a4 a5 a6 a7 a8 a9 a10 a11 a12 a13 a14 a15 a16 a17 a18 a19 a20 a21 (f + 1) (nI (cnt t)) (nI t) := by
    intro f
    induction f with
    | zero =>
      intro t ht hf
      have e : t = 101 := by omega
      subst e
      exact pk_le 101 101 (fun _ => K) (fun z => absurd z (by omega))
    | succ f ih =>
      intro t ht hf
      refine pk_le 101 t (fun z => absurd z (by omega)) (fun _ => And.intro (pk_in (101 * k + t) 1010 (by omega) (cn_ix k t)) ?_)
      have := ih (t + 1) (by omega) (by omega)
      rcases hA.2.2.2 k t (by omega) (by omega) with ⟨h, hb⟩ | ⟨h, hb⟩
      · rw [c2 t (by omega) hb] at this
        exact br_t (cn_at h (cn_ix k t)) (nm_r (nI_add (cnt t) 0) (nm_r (nI_1 t) this))
      · rw [c1 t (by omega) hb] at this
        exact br_f (by rw [cn_at h (cn_ix k t)]; decide) (nm_r (nI_1 (cnt t)) (nm_r (nI_1 t) this))
  have m0 := main 101 0 (by omega) (by omega)
  rw [c0] at m0
  unfold wpX_booked
  exact cn_con hk hn (br_f (by decide) (And.intro (pk_in k 10 (by omega)) (br_t (by rw [cn_at (hA.2.1 k (by omega))]; exact cn_i0 hC) ⟨_, m0⟩)))
end
section
theorem cn_e6 {x y : Nat} (hx : x < 6) (hy : y < 6) : nI (6 * x + y) / 6 = nI x ∧ nI (6 * x + y) - nI (6 * x + y) / 6 * 6 = nI y := by
  constructor
  · rw [show (6 : Int32) = nI 6 from rfl, pk_div (by omega) (by omega) (by omega), show (6 * x + y) / 6 = x by omega]
  · rw [show (6 : Int32) = nI 6 from rfl, pk_rem (by omega) (by omega) (by omega), show (6 * x + y) % 6 = y by omega]
theorem cn_quote {post : Int32 → St2 → Prop} {u : St2} {q : cn_Q} {n m T : Nat} {C : Nat → Bool} {B : Nat → Nat → Prop} {R : Nat → Bool} {H : Nat → List (Nat × Nat)} {A : Nat → Int32} {nd tg z : Nat} {x0 x1 : Int32} (hq : cn_ok q) (hI : cn_I q n m T C B R H A u) (h1 : nd < 6) (h2 : tg < 6) (h3 : nd ≠ tg) (hz : 1 ≤ z ∧ z ≤ 30) (v : Nat) (hv : cn_sp q (cn_c q C B z) n nd T 5 tg = v) (K0 : v < 1000000 → ∀ u', cn_I q n m T C B R H A u' → post (nI v) u') (K1 : v = 1000000 → ∀ u', cn_I q n m T C B R H A u' → post (-2) u') (e0 : x0 = nI (6 * nd + tg) := by rfl) (e1 : x1 = nI z := by rfl) : wpX_quote post u x0 x1 := by
  subst e0 e1
  obtain ⟨fc, fb, fn, fr, a1, a2, a3, a4, a5, a6, a7, a8, a9, a10, a11, a12, a13, a14, a15, a16, a17, a18, a19, a20, a21⟩ := u
  obtain ⟨k1, k2, k3, k4, k5, hA, hU⟩ := hI
  subst k1 k2 k3 k5
  obtain ⟨c1, c2⟩ := cn_e6 h1 h2
  have hle := cn_sp_le (q := q) (c := cn_c q C B z) (n := n) (node := nd) (show T ≤ 1000000 by omega) 5 tg
  unfold wpX_quote
  refine cn_ends h1 h2 h3 (br_f (by decide) (cn_size hz.1 hz.2 (br_f (by decide) (And.intro (by decide) ?_))))
  refine cn_spw (mo := 5) hq hA hz h1 (by omega) (by omega) (fun x20 x21 h20 => ?_) c1 rfl rfl rfl
  refine And.intro (by decide) (And.intro (pk_in tg 6 h2 c2) (nm_r (e' := nI v) (by rw [cn_at (h20 tg h2) c2, hv]) ?_))
  refine pk_lt v 1000000 (fun hlt => K0 hlt _ ⟨rfl, rfl, rfl, k4, rfl, hA, hU⟩) (fun hge => K1 (by omega) _ ⟨rfl, rfl, rfl, k4, rfl, hA, hU⟩)
def cn_ro (a v : Nat) : Nat → Int32
  | 0 => (1 : Int32) <<< (nI a &&& 31)
  | j + 1 => if j = a ∨ j = v then cn_ro a v j ||| ((1 : Int32) <<< (nI j &&& 31)) else cn_ro a v j ||| 0
theorem cn_ro6 : ∀ a, a < 6 → ∀ v, v < 6 → a ≠ v → cn_ro a v 6 = ((1 : Int32) <<< (nI a &&& 31)) + ((1 : Int32) <<< (nI v &&& 31)) := by decide +kernel
theorem cn_reach {post : Int32 → St2 → Prop} {u : St2} {q : cn_Q} {n m T : Nat} {C : Nat → Bool} {B : Nat → Nat → Prop} {R : Nat → Bool} {H : Nat → List (Nat × Nat)} {A : Nat → Int32} {ra rv : Nat} {x0 x1 x2 : Int32} (hq : cn_ok q) (hI : cn_I q n m T C B R H A u) (hs : cn_sp q (cn_c q C B 1) n (cn_a q) T 5 = cn_tr q ra rv 1000000) (hra : ra ≤ 1) (hrv : rv ≤ 1) (K : ∀ u', cn_I q n m T C B R H A u' → post (((1 : Int32) <<< (nI (cn_a q) &&& 31)) + ((1 : Int32) <<< (nI (cn_v q) &&& 31))) u') (e0 : x0 = nI (cn_a q) := by rfl) (e1 : x1 = nI 1 := by rfl) (e2 : x2 = nI 1 := by rfl) : wpX_reach post u x0 x1 x2 := by
  subst e0 e1 e2
  obtain ⟨fc, fb, fn, fr, a1, a2, a3, a4, a5, a6, a7, a8, a9, a10, a11, a12, a13, a14, a15, a16, a17, a18, a19, a20, a21⟩ := u
  obtain ⟨k1, k2, k3, k4, k5, hA, hU⟩ := hI
  subst k1 k2 k3 k5
  have hok := hq
  obtain ⟨q1, q2, q3, q4, q5, q6, _⟩ := hok
  unfold wpX_reach
  refine pk_lt (cn_a q) 0 (fun z => absurd z (by omega)) (fun _ => pk_le 6 (cn_a q) (fun z => absurd z (by omega)) (fun _ => cn_size (t := 1) (by omega) (by omega) (br_f (by decide) ?_)))
  refine cn_spw (mo := 5) (z := 1) (r := T) hq hA (by omega) q1 (by omega) (by omega) (fun x20 x21 h20 => nm_e ?_)
  have main : ∀ f j, j ≤ 6 → f = 6 - j → wX_reach_38 post (nI 1) (nI n) (nI m) (nI T) fr a1 a2 a3 a4 a5 a6 a7 a8 a9 a10 a11 a12 a13 a14 a15 a16 a17 a18 a19 x20 x21 (f + 1) (cn_ro (cn_a q) (cn_v q) j) (nI j) := by
    intro f
    induction f with
    | zero =>
      intro j hj hf
      have e : j = 6 := by omega
      subst e
      refine pk_le 6 6 (fun _ => ?_) (fun z => absurd z (by omega))
      rw [cn_ro6 _ q1 _ q2 q4]
      exact K _ ⟨rfl, rfl, rfl, k4, rfl, hA, hU⟩
    | succ f ih =>
      intro j hj hf
      have hr := ih (j + 1) (by omega) (by omega)
      have h := h20 j (by omega)
      rw [hs] at h
      refine pk_le 6 j (fun z => absurd z (by omega)) (fun _ => And.intro (pk_in j 6 (by omega)) ?_)
      by_cases e : j = cn_a q ∨ j = cn_v q
      · have hle : cn_tr q ra rv 1000000 j ≤ 1 := by
          rcases e with e | e
          · rw [e, cn_tr_a]
            exact hra
          · rw [e, cn_tr_v hq]
            exact hrv
        refine pk_le 1000000 (cn_tr q ra rv 1000000 j) (fun z => absurd z (by omega)) (fun _ => And.intro (pk_in j 6 (by omega)) (pk_lt 1 (cn_tr q ra rv 1000000 j) (fun z => absurd z (by omega)) (fun _ => ?_) rfl (cn_at h))) rfl (cn_at h)
        refine nm_r (e' := cn_ro (cn_a q) (cn_v q) (j + 1)) ?_ (nm_r (nI_1 j) hr)
        exact (if_pos e).symm
      · have he : cn_tr q ra rv 1000000 j = 1000000 := by
          unfold cn_tr
          rw [if_neg (fun z => e (Or.inl z)), if_neg (fun z => e (Or.inr z))]
          split <;> rfl
        refine pk_le 1000000 (cn_tr q ra rv 1000000 j) (fun _ => ?_) (fun z => absurd z (by omega)) rfl (cn_at h)
        refine nm_r (e' := cn_ro (cn_a q) (cn_v q) (j + 1)) ?_ (nm_r (nI_1 j) hr)
        exact (if_neg e).symm
  exact ⟨_, main 6 0 (by omega) (by omega)⟩
theorem cn_int {post : Int32 → St2 → Prop} {u : St2} {q : cn_Q} {n m T : Nat} {C : Nat → Bool} {B : Nat → Nat → Prop} {R : Nat → Bool} {H : Nat → List (Nat × Nat)} {A : Nat → Int32} {nd tg z r y : Nat} {x0 x1 x2 x3 : Int32} (hq : cn_ok q) (hI : cn_I q n m T C B R H A u) (h1 : nd < 6) (h2 : tg < 6) (hz : 1 ≤ z ∧ z ≤ 30) (hr : r ≤ 1000000) (hy : y ≤ 1000) (K1 : cn_sp q (cn_c q C B z) n nd r 5 tg ≤ y → ∀ u', cn_I q n m T C B R H A u' → post 1 u') (K0 : y < cn_sp q (cn_c q C B z) n nd r 5 tg → ∀ u', cn_I q n m T C B R H A u' → post 0 u') (e0 : x0 = nI (6 * nd + tg) := by rfl) (e1 : x1 = nI z := by rfl) (e2 : x2 = nI r := by rfl) (e3 : x3 = nI y := by rfl) : wpX_isInTime post u x0 x1 x2 x3 := by
  subst e0 e1 e2 e3
  obtain ⟨fc, fb, fn, fr, a1, a2, a3, a4, a5, a6, a7, a8, a9, a10, a11, a12, a13, a14, a15, a16, a17, a18, a19, a20, a21⟩ := u
  obtain ⟨k1, k2, k3, k4, k5, hA, hU⟩ := hI
  subst k1 k2 k3 k5
  obtain ⟨c1, c2⟩ := cn_e6 h1 h2
  have hle := cn_sp_le (q := q) (c := cn_c q C B z) (n := n) (node := nd) hr 5 tg
  refine And.intro (by decide) ?_
  refine cn_spw (mo := 5) hq hA hz h1 hr (by omega) (fun x20 x21 h20 => ?_) c1 rfl rfl rfl
  refine And.intro (by decide) (And.intro (pk_in tg 6 h2 c2) (nm_r (e' := nI (cn_sp q (cn_c q C B z) n nd r 5 tg)) (by rw [cn_at (h20 tg h2) c2]) ?_))
  refine pk_le 1000000 (cn_sp q (cn_c q C B z) n nd r 5 tg) (fun hge => K0 (by omega) _ ⟨rfl, rfl, rfl, k4, rfl, hA, hU⟩) (fun hlt => ?_)
  exact pk_lt y (cn_sp q (cn_c q C B z) n nd r 5 tg) (fun hlt => K0 hlt _ ⟨rfl, rfl, rfl, k4, rfl, hA, hU⟩) (fun hge => K1 hge _ ⟨rfl, rfl, rfl, k4, rfl, hA, hU⟩)
def cn_l55 (post : Int32 → St2 → Prop) (x1 x2 x3 : Int32) (f lo hi k : Nat) (u : St2) : Prop := match u with
  | (fc, fb, fn, fr, a1, a2, a3, a4, a5, a6, a7, a8, a9, a10, a11, a12, a13, a14, a15, a16, a17, a18, a19, a20, a21) => wX_latest_55 post x1 x2 x3 f (nI lo) (nI hi) (nI k) fc fb fn fr a1 a2 a3 a4 a5 a6 a7 a8 a9 a10 a11 a12 a13 a14 a15 a16 a17 a18 a19 a20 a21
theorem cn_l55w {post : Int32 → St2 → Prop} {q : cn_Q} {n m T : Nat} {C : Nat → Bool} {B : Nat → Nat → Prop} {R : Nat → Bool} {H : Nat → List (Nat × Nat)} {A : Nat → Int32} {nd tg z y L : Nat} (hq : cn_ok q) (h1 : nd < 6) (h2 : tg < 6) (hz : 1 ≤ z ∧ z ≤ 30) (hy : y ≤ 1000) (hth : ∀ r, T ≤ r → r ≤ 100 → (r ≤ L ↔ cn_sp q (cn_c q C B z) n nd r 5 tg ≤ y)) (K : ∀ u', cn_I q n m T C B R H A u' → post (nI L) u') : ∀ d lo hi k u, cn_I q n m T C B R H A u → k + d = 7 → T ≤ lo → lo ≤ L → L ≤ hi → hi ≤ 100 → hi - lo < 2 ^ d → cn_l55 post (nI (6 * nd + tg)) (nI z) (nI y) (d + 1) lo hi k u := by
  intro d
  induction d with
  | zero =>
    intro lo hi k u hI hk hT hlo hhi h100 hd
    have hKu := K u hI
    obtain ⟨fc, fb, fn, fr, a1, a2, a3, a4, a5, a6, a7, a8, a9, a10, a11, a12, a13, a14, a15, a16, a17, a18, a19, a20, a21⟩ := u
    have e : L = lo := by omega
    subst e
    exact pk_le 8 k (fun z => absurd z (by omega)) (fun _ => pk_le hi L (fun _ => hKu) (fun z => absurd z (by omega)))
  | succ d ih =>
    intro lo hi k u hI hk hT hlo hhi h100 hd
    have hp : 2 ^ (d + 1) = 2 * 2 ^ d := by rw [Nat.pow_succ, Nat.mul_comm]
    have hI' := hI
    have hKu := K u hI
    obtain ⟨fc, fb, fn, fr, a1, a2, a3, a4, a5, a6, a7, a8, a9, a10, a11, a12, a13, a14, a15, a16, a17, a18, a19, a20, a21⟩ := u
    refine pk_le 8 k (fun z => absurd z (by omega)) (fun _ => pk_le hi lo (fun hle => ?_) (fun hlt => ?_))
    · have e : L = lo := by omega
      subst e
      exact hKu
    · refine nm_r (e' := nI ((lo + hi + 1) / 2)) (by rw [nI_add, nI_1]; exact pk_shrN (by omega) _ 1 (by decide)) ?_
      have ht := hth ((lo + hi + 1) / 2) (by omega) (by omega)
      refine cn_int (r := (lo + hi + 1) / 2) hq hI' h1 h2 hz (by omega) hy (fun hle u' hu' => ?_) (fun hlt2 u' hu' => ?_)
      · have hr := ih ((lo + hi + 1) / 2) hi (k + 1) u' hu' (by omega) (by omega) (ht.mpr hle) hhi h100 (by omega)
        obtain ⟨fc, fb, fn, fr, a1, a2, a3, a4, a5, a6, a7, a8, a9, a10, a11, a12, a13, a14, a15, a16, a17, a18, a19, a20, a21⟩ := u'
        exact br_f (by decide) (nm_r (nI_1 k) hr)
      · have hn : ¬ (lo + hi + 1) / 2 ≤ L := fun z => by
          have := ht.mp z
          omega
        have hr := ih lo ((lo + hi + 1) / 2 - 1) (k + 1) u' hu' (by omega) (by omega) hlo (by omega) (by omega) (by omega)
        obtain ⟨fc, fb, fn, fr, a1, a2, a3, a4, a5, a6, a7, a8, a9, a10, a11, a12, a13, a14, a15, a16, a17, a18, a19, a20, a21⟩ := u'
        exact br_t rfl (nm_r (cn_pr (by omega)) (nm_r (nI_1 k) hr))
theorem cn_latest {post : Int32 → St2 → Prop} {u : St2} {q : cn_Q} {n m T : Nat} {C : Nat → Bool} {B : Nat → Nat → Prop} {R : Nat → Bool} {H : Nat → List (Nat × Nat)} {A : Nat → Int32} {nd tg z y L : Nat} {x0 x1 x2 : Int32} (hq : cn_ok q) (hI : cn_I q n m T C B R H A u) (h1 : nd < 6) (h2 : tg < 6) (h3 : nd ≠ tg) (hz : 1 ≤ z ∧ z ≤ 30) (hy : y ≤ 1000) (hT : T ≤ L) (hL : L ≤ 100) (hth : ∀ r, T ≤ r → r ≤ 100 → (r ≤ L ↔ cn_sp q (cn_c q C B z) n nd r 5 tg ≤ y)) (K : ∀ u', cn_I q n m T C B R H A u' → post (nI L) u') (e0 : x0 = nI (6 * nd + tg) := by rfl) (e1 : x1 = nI z := by rfl) (e2 : x2 = nI y := by rfl) : wpX_latest post u x0 x1 x2 := by
  subst e0 e1 e2
  have hI' := hI
  obtain ⟨fc, fb, fn, fr, a1, a2, a3, a4, a5, a6, a7, a8, a9, a10, a11, a12, a13, a14, a15, a16, a17, a18, a19, a20, a21⟩ := u
  obtain ⟨k1, k2, k3, k4, k5, hA, hU⟩ := hI
  subst k1 k2 k3 k5
  unfold wpX_latest
  refine cn_ends h1 h2 h3 (br_f (by decide) (cn_size hz.1 hz.2 (br_f (by decide) (pk_lt 100 T (fun z => absurd z (by omega)) (fun _ => ?_)))))
  refine cn_int (r := T) hq hI' h1 h2 hz (by omega) hy (fun hle u' hu' => ?_) (fun hlt u' hu' => ?_)
  · have hr := cn_l55w hq h1 h2 hz hy hth K 7 T 100 0 u' hu' (by omega) (by omega) hT hL (by omega) (by omega)
    obtain ⟨fc, fb, fn, fr, a1, a2, a3, a4, a5, a6, a7, a8, a9, a10, a11, a12, a13, a14, a15, a16, a17, a18, a19, a20, a21⟩ := u'
    have hn : fn = nI T := hu'.2.2.1
    subst hn
    exact br_f (by decide) ⟨_, hr⟩
  · have := (hth T (by omega) (by omega)).mp hT
    omega
theorem cn_late {post : Int32 → St2 → Prop} {u : St2} {q : cn_Q} {n m T : Nat} {C : Nat → Bool} {B : Nat → Nat → Prop} {R : Nat → Bool} {H : Nat → List (Nat × Nat)} {A : Nat → Int32} {nd tg z y : Nat} {x0 x1 x2 : Int32} (hq : cn_ok q) (hI : cn_I q n m T C B R H A u) (h1 : nd < 6) (h2 : tg < 6) (h3 : nd ≠ tg) (hz : 1 ≤ z ∧ z ≤ 30) (hy : y ≤ 1000) (hT : T ≤ 100) (hth : y < cn_sp q (cn_c q C B z) n nd T 5 tg) (K : ∀ u', cn_I q n m T C B R H A u' → post (-4) u') (e0 : x0 = nI (6 * nd + tg) := by rfl) (e1 : x1 = nI z := by rfl) (e2 : x2 = nI y := by rfl) : wpX_latest post u x0 x1 x2 := by
  subst e0 e1 e2
  have hI' := hI
  obtain ⟨fc, fb, fn, fr, a1, a2, a3, a4, a5, a6, a7, a8, a9, a10, a11, a12, a13, a14, a15, a16, a17, a18, a19, a20, a21⟩ := u
  obtain ⟨k1, k2, k3, k4, k5, hA, hU⟩ := hI
  subst k1 k2 k3 k5
  unfold wpX_latest
  refine cn_ends h1 h2 h3 (br_f (by decide) (cn_size hz.1 hz.2 (br_f (by decide) (pk_lt 100 T (fun z => absurd z (by omega)) (fun _ => ?_)))))
  refine cn_int (r := T) hq hI' h1 h2 hz (by omega) hy (fun hle u' hu' => absurd hth (by omega)) (fun hlt u' hu' => ?_)
  have := K u' hu'
  obtain ⟨fc, fb, fn, fr, a1, a2, a3, a4, a5, a6, a7, a8, a9, a10, a11, a12, a13, a14, a15, a16, a17, a18, a19, a20, a21⟩ := u'
  exact br_t rfl this
theorem cn_cbad {post : Int32 → St2 → Prop} {u : St2} {q : cn_Q} {x0 x1 x2 : Int32} (hq : cn_ok q) (K : post (-1) u) (e0 : x0 = nI (6 * cn_a q + cn_b q)) (e1 : x1 = nI 1 := by rfl) (e2 : x2 = nI 9 := by rfl) : wpX_contact post u x0 x1 x2 := by
  subst e0 e1 e2
  obtain ⟨fc, fb, fn, fr, a1, a2, a3, a4, a5, a6, a7, a8, a9, a10, a11, a12, a13, a14, a15, a16, a17, a18, a19, a20, a21⟩ := u
  unfold wpX_contact
  exact cn_ends hq.1 hq.2.2.1 hq.2.2.2.2.1 (br_f (by decide) (cn_span (s := 0) (e := 1) (by omega) (by omega) (br_f (by decide) (pk_lt 9 10 (fun _ => br_t rfl K) (fun z => absurd z (by omega))))))
end
section
theorem cn_cN {q : cn_Q} {C : Nat → Bool} {B : Nat → Nat → Prop} {z k r : Nat} (h : C k = true) : cn_c q C B z k r = 1000000 := by
  unfold cn_c
  rw [h]
  exact cn_ci_c
theorem cn_c0 {q : cn_Q} {C : Nat → Bool} {B : Nat → Nat → Prop} {z k r : Nat} (hz : 1 ≤ z ∧ z ≤ 30) (h : ∀ y, r ≤ y → cn_S q k ≤ y → y < cn_E q k → B k y) : cn_c q C B z k r = 1000000 := cn_ci_0 (cn_t30 hz.1 hz.2).1 h
theorem cn_c1 {q : cn_Q} {C : Nat → Bool} {B : Nat → Nat → Prop} {z k r g : Nat} (hz : 1 ≤ z ∧ z ≤ 30) (hC : C k = false) (hr : r < 1000000) (h : cn_fb (B k) (cn_t k z) (cn_E q k - max r (cn_S q k)) 0 (max r (cn_S q k)) = some g) : cn_c q C B z k r = g + cn_t k z + cn_D k := by
  unfold cn_c
  rw [hC]
  exact cn_ci_1 (cn_t30 hz.1 hz.2).1 hr h
theorem cn_FA1 {q : cn_Q} {C : Nat → Bool} {B : Nat → Nat → Prop} {z r g best : Nat} (hq : cn_ok q) (hz : 1 ≤ z ∧ z ≤ 30) (hC : C 0 = false) (hr : r < 1000000) (h : cn_fb (B 0) (cn_t 0 z) (cn_E q 0 - max r (cn_S q 0)) 0 (max r (cn_S q 0)) = some g) (hb : best = g + cn_t 0 z + cn_D 0) : cn_FR q 1 C B z (cn_a q) r [(0, g)] best := by
  have hc := cn_c1 (q := q) (C := C) hz hC hr h
  have hg := cn_fb_E h
  have hE := cn_E99 hq 0
  have hD := cn_D9 0
  refine Or.inr (Or.inl ⟨0, g, rfl, by omega, ?_, ?_, rfl, fun j hj => absurd hj (by omega), h⟩)
  · rw [cn_sp_a2 hq (fun k => cn_c_N) (fun k r => cn_c_le hq) (by omega) (x := 1000000) rfl 3, cn_tr_b hq, hc]
    show min (g + cn_t 0 z + cn_D 0) 1000000 = best
    omega
  · rw [cn_sp_a1 hq (fun k => cn_c_N) (fun k r => cn_c_le hq) (by omega), cn_tr_b hq, hc]
    exact hb.symm
theorem cn_spA0 {q : cn_Q} {C : Nat → Bool} {B : Nat → Nat → Prop} {z r n : Nat} (hq : cn_ok q) (h0 : 0 < n) (hn : n ≤ 2) (h : cn_c q C B z 0 r = 1000000) : cn_sp q (cn_c q C B z) n (cn_a q) r 5 (cn_b q) = 1000000 := by
  rw [cn_sp_a2 hq (fun k => cn_c_N) (fun k r => cn_c_le hq) h0 rfl 3, cn_tr_b hq, h]
  rcases (show n = 1 ∨ n = 2 by omega) with e | e <;> subst e <;> rfl
theorem cn_FA0 {q : cn_Q} {C : Nat → Bool} {B : Nat → Nat → Prop} {z r n best : Nat} (hq : cn_ok q) (h0 : 0 < n) (hn : n ≤ 2) (h : cn_c q C B z 0 r = 1000000) : cn_FR q n C B z (cn_a q) r [] best :=
  Or.inl ⟨rfl, cn_spA0 hq h0 hn h⟩
theorem cn_FA2 {q : cn_Q} {C : Nat → Bool} {B : Nat → Nat → Prop} {z r g1 g2 best : Nat} (hq : cn_ok q) (hz : 1 ≤ z ∧ z ≤ 30) (h0 : cn_c q C B z 0 r = 1000000) (hC1 : C 1 = false) (hC2 : C 2 = false) (hr : r < 1000000) (h1 : cn_fb (B 1) (cn_t 1 z) (cn_E q 1 - max r (cn_S q 1)) 0 (max r (cn_S q 1)) = some g1) (h2 : cn_fb (B 2) (cn_t 2 z) (cn_E q 2 - max (g1 + cn_t 1 z + cn_D 1) (cn_S q 2)) 0 (max (g1 + cn_t 1 z + cn_D 1) (cn_S q 2)) = some g2) (hb : best = g2 + cn_t 2 z + cn_D 2) : cn_FR q 3 C B z (cn_a q) r [(1, g1), (2, g2)] best := by
  have hg1 := cn_fb_E h1
  have hg2 := cn_fb_E h2
  have hE1 := cn_E99 hq 1
  have hE2 := cn_E99 hq 2
  have hD1 := cn_D9 1
  have hD2 := cn_D9 2
  have c1 := cn_c1 (q := q) (C := C) hz hC1 hr h1
  have c2 := cn_c1 (q := q) (C := C) (k := 2) hz hC2 (show g1 + cn_t 1 z + cn_D 1 < 1000000 by omega) h2
  exact Or.inr (Or.inr ⟨g1 + cn_t 1 z + cn_D 1, g1, g2, rfl, by omega, rfl, rfl, h0, c1, by rw [c2, hb], by omega, rfl, h1, h2⟩)
theorem cn_ddN {c : Nat → Nat → Nat} {x : Nat} : ∀ n, (∀ k, 2 ≤ k → k < n → c k x = 1000000) → cn_dd c x n = 1000000 := by
  intro n
  induction n with
  | zero => intro _; rfl
  | succ n ih =>
    intro h
    have hi := ih (fun k h1 h2 => h k h1 (by omega))
    show (if 2 ≤ n then min (cn_dd c x n) (c n x) else cn_dd c x n) = 1000000
    rw [hi]
    by_cases e : 2 ≤ n
    · rw [if_pos e, h n e (by omega)]
      rfl
    · rw [if_neg e]
theorem cn_dd1 {c : Nat → Nat → Nat} {x k : Nat} (h : ∀ j, 2 ≤ j → j < k → c j x = 1000000) (hk : 2 ≤ k) (hc : c k x ≤ 1000000) : cn_dd c x (k + 1) = c k x := by
  show (if 2 ≤ k then min (cn_dd c x k) (c k x) else cn_dd c x k) = c k x
  rw [if_pos hk, cn_ddN k h]
  omega
theorem cn_spv {q : cn_Q} (hq : cn_ok q) {C : Nat → Bool} {B : Nat → Nat → Prop} {z n r : Nat} (hr : r ≤ 1000000) (hn : 2 ≤ n) (i : Nat) : cn_sp q (cn_c q C B z) n (cn_v q) r (i + 1) (cn_b q) = cn_dd (cn_c q C B z) r n := by
  rcases cn_sp_v hq (c := cn_c q C B z) (fun k => cn_c_N) (n := n) (r := r) (by omega) i with e | e
  · rw [e, cn_tr_b hq]
  · omega
theorem cn_FV0 {q : cn_Q} {C : Nat → Bool} {B : Nat → Nat → Prop} {z r n best : Nat} (hq : cn_ok q) (hr : r ≤ 1000000) (hn : 2 ≤ n) (h : ∀ k, 2 ≤ k → k < n → cn_c q C B z k r = 1000000) : cn_FR q n C B z (cn_v q) r [] best :=
  Or.inl ⟨rfl, by rw [cn_spv hq hr hn 4]; exact cn_ddN n h⟩
theorem cn_FV1 {q : cn_Q} {C : Nat → Bool} {B : Nat → Nat → Prop} {z r n k g best : Nat} (hq : cn_ok q) (hz : 1 ≤ z ∧ z ≤ 30) (hr : r < 1000000) (hn : n = k + 1) (hk : 2 ≤ k) (h : ∀ j, 2 ≤ j → j < k → cn_c q C B z j r = 1000000) (hC : C k = false) (hf : cn_fb (B k) (cn_t k z) (cn_E q k - max r (cn_S q k)) 0 (max r (cn_S q k)) = some g) (hb : best = g + cn_t k z + cn_D k) : cn_FR q n C B z (cn_v q) r [(k, g)] best := by
  have hc := cn_c1 (q := q) (C := C) hz hC hr hf
  have hg := cn_fb_E hf
  have hE := cn_E99 hq k
  have hD := cn_D9 k
  have hle := cn_c_le hq (C := C) (B := B) (z := z) (k := k) (r := r)
  subst hn
  refine Or.inr (Or.inl ⟨k, g, rfl, by omega, ?_, ?_, rfl, fun j hj => ?_, hf⟩)
  · rw [cn_spv hq (by omega) (by omega) 4, cn_dd1 h hk hle, hc, hb]
  · rw [cn_spv hq (by omega) (by omega) 0, cn_dd1 h hk hle, hc, hb]
  · rcases Nat.lt_or_ge j 2 with e | e
    · refine Or.inl ?_
      have e2 : cn_fr q j = cn_a q := if_pos e
      rw [e2]
      exact hq.2.2.2.1
    · exact Or.inr (h j e hj)
/-- three bundles' worth of something -/
def cn_3 {α : Type} (d x0 x1 x2 : α) : Nat → α := fun i => if i = 0 then x0 else if i = 1 then x1 else if i = 2 then x2 else d
/-- the busy ticks, in one form for all states of the law -/
def cn_BB (l0 h0 z1 l1 h1 h2 h3 h4 : Nat) : Nat → Nat → Prop := fun k y => (k = 0 ∧ l0 ≤ y ∧ y < h0) ∨ (k = 1 ∧ (y < z1 ∨ (l1 ≤ y ∧ y < h1))) ∨ (k = 2 ∧ 30 ≤ y ∧ y < h2) ∨ (k = 3 ∧ 60 ≤ y ∧ y < h3) ∨ (k = 4 ∧ 60 ≤ y ∧ y < h4)
theorem cn_norm {q : cn_Q} {n m T : Nat} {C : Nat → Bool} {B B' : Nat → Nat → Prop} {R : Nat → Bool} {H : Nat → List (Nat × Nat)} {A : Nat → Int32} {u : St2} {x0 x1 x2 : Bool} {y0 y1 y2 : List (Nat × Nat)} (h : cn_I q n m T C B R H A u) (hB : ∀ k y, k < 5 → y < 101 → (B k y ↔ B' k y)) (r0 : R 0 = x0 := by rfl) (r1 : R 1 = x1 := by rfl) (r2 : R 2 = x2 := by rfl) (l0 : H 0 = y0 := by rfl) (l1 : H 1 = y1 := by rfl) (l2 : H 2 = y2 := by rfl) : cn_I q n m T C B' (cn_3 false x0 x1 x2) (cn_3 [] y0 y1 y2) A u := by
  have hm : m ≤ 3 := by
    obtain ⟨fc, fb, fn, fr, a1, a2, a3, a4, a5, a6, a7, a8, a9, a10, a11, a12, a13, a14, a15, a16, a17, a18, a19, a20, a21⟩ := u
    exact h.2.2.2.2.2.2.1
  refine cn_I_R (cn_I_B h hB) (fun i hi => ?_) (fun i hi => ?_)
  · rcases (show i = 0 ∨ i = 1 ∨ i = 2 by omega) with e | e | e <;> subst e
    · exact r0.symm
    · exact r1.symm
    · exact r2.symm
  · rcases (show i = 0 ∨ i = 1 ∨ i = 2 by omega) with e | e | e <;> subst e
    · exact l0.symm
    · exact l1.symm
    · exact l2.symm
end
section
abbrev cn_C0 : Nat → Bool := fun _ => false
abbrev cn_C1 : Nat → Bool := cn_u cn_C0 0 true
abbrev cn_C2 : Nat → Bool := cn_u cn_C1 2 true
abbrev cn_C3 : Nat → Bool := cn_u cn_C2 3 true
abbrev cn_C4 : Nat → Bool := cn_u cn_C3 4 true
/-- contact 0 is booked from its start up to x -/
theorem cn_g0 {q : cn_Q} {x z z1 l1 h1 h2 h3 h4 : Nat} (hz : 1 ≤ z) (hx : cn_s q ≤ x) (he : x + z ≤ cn_s q + cn_o q + cn_w q) : cn_fb (cn_BB (cn_s q) x z1 l1 h1 h2 h3 h4 0) (cn_t 0 z) (cn_E q 0 - max 0 (cn_S q 0)) 0 (max 0 (cn_S q 0)) = some x := by
  have e1 : cn_S q 0 = cn_s q := rfl
  have e2 : cn_E q 0 = cn_s q + cn_o q + cn_w q := rfl
  have e3 : cn_t 0 z = z := cn_t0
  refine cn_ci_fb (by omega) (by omega) (by omega) (by omega) (fun y h1 h2 h3 => ?_) (fun y h1 h2 => ?_)
  · unfold cn_BB
    omega
  · unfold cn_BB
    omega
theorem cn_f0 {q : cn_Q} {C : Nat → Bool} {z r z1 l1 h1 h2 h3 h4 : Nat} (hz : 1 ≤ z ∧ z ≤ 30) : cn_c q C (cn_BB (cn_s q) (cn_s q + cn_o q + cn_w q) z1 l1 h1 h2 h3 h4) z 0 r = 1000000 := by
  have e1 : cn_S q 0 = cn_s q := rfl
  have e2 : cn_E q 0 = cn_s q + cn_o q + cn_w q := rfl
  refine cn_c0 hz (fun y h1 h2 h3 => ?_)
  unfold cn_BB
  omega
theorem cn_g1 {q : cn_Q} {l0 h0 z1 l1 h1 h2 h3 h4 z r g : Nat} (hz : 1 ≤ z ∧ z ≤ 9) (hr : r ≤ g) (hg : g < 50) (hb : ∀ y, r ≤ y → y < g → y < z1 ∨ (l1 ≤ y ∧ y < h1)) (hn : ¬ (g < z1 ∨ (l1 ≤ g ∧ g < h1))) : cn_fb (cn_BB l0 h0 z1 l1 h1 h2 h3 h4 1) (cn_t 1 z) (cn_E q 1 - max r (cn_S q 1)) 0 (max r (cn_S q 1)) = some g := by
  have e1 : cn_S q 1 = 0 := rfl
  have e2 : cn_E q 1 = 50 := rfl
  have e3 : cn_t 1 z = 1 := cn_t9 (by omega) hz.1 hz.2
  refine cn_ci_fb (by omega) hr (by omega) (by omega) (fun y h1 h2 h3 => ?_) (fun y h1 h2 => ?_)
  · have := hb y h1 h3
    unfold cn_BB
    omega
  · have : y = g := by omega
    subst this
    unfold cn_BB
    omega
theorem cn_g2 {q : cn_Q} {l0 h0 z1 l1 h1 h2 h3 h4 z r g : Nat} (hz : 1 ≤ z ∧ z ≤ 9) (h30 : 30 ≤ h2) (hg : g = max r h2) (hg9 : g < 99) : cn_fb (cn_BB l0 h0 z1 l1 h1 h2 h3 h4 2) (cn_t 2 z) (cn_E q 2 - max r (cn_S q 2)) 0 (max r (cn_S q 2)) = some g := by
  have e1 : cn_S q 2 = 30 := rfl
  have e2 : cn_E q 2 = 99 := rfl
  have e3 : cn_t 2 z = 1 := cn_t9 (by omega) hz.1 hz.2
  refine cn_ci_fb (by omega) (by omega) (by omega) (by omega) (fun y h1 h2 h3 => ?_) (fun y h1 h2 => ?_)
  · unfold cn_BB
    omega
  · unfold cn_BB
    omega
theorem cn_g3 {q : cn_Q} {l0 h0 z1 l1 h1 h2 h4 z r : Nat} (hz : 1 ≤ z ∧ z ≤ 9) (hr : r ≤ 60) : cn_fb (cn_BB l0 h0 z1 l1 h1 h2 60 h4 3) (cn_t 3 z) (cn_E q 3 - max r (cn_S q 3)) 0 (max r (cn_S q 3)) = some 60 := by
  have e1 : cn_S q 3 = 60 := rfl
  have e2 : cn_E q 3 = 61 := rfl
  have e3 : cn_t 3 z = 1 := cn_t9 (by omega) hz.1 hz.2
  refine cn_ci_fb (by omega) (by omega) (by omega) (by omega) (fun y h1 h2 h3 => absurd h3 (by omega)) (fun y h1 h2 => ?_)
  unfold cn_BB
  omega
theorem cn_f3 {q : cn_Q} {C : Nat → Bool} {l0 h0 z1 l1 h1 h2 h4 z r : Nat} (hz : 1 ≤ z ∧ z ≤ 30) : cn_c q C (cn_BB l0 h0 z1 l1 h1 h2 61 h4) z 3 r = 1000000 := by
  have e1 : cn_S q 3 = 60 := rfl
  have e2 : cn_E q 3 = 61 := rfl
  refine cn_c0 hz (fun y h1 h2 h3 => ?_)
  unfold cn_BB
  omega
theorem cn_g4 {q : cn_Q} {l0 h0 z1 l1 h1 h2 h3 h4 z r : Nat} (hz : 1 ≤ z ∧ z ≤ 9) (hr : r ≤ 60) (h60 : 60 ≤ h4) (h99 : h4 < 99) : cn_fb (cn_BB l0 h0 z1 l1 h1 h2 h3 h4 4) (cn_t 4 z) (cn_E q 4 - max r (cn_S q 4)) 0 (max r (cn_S q 4)) = some h4 := by
  have e1 : cn_S q 4 = 60 := rfl
  have e2 : cn_E q 4 = 99 := rfl
  have e3 : cn_t 4 z = 1 := cn_t9 (by omega) hz.1 hz.2
  refine cn_ci_fb (by omega) (by omega) (by omega) (by omega) (fun y h1 h2 h3 => ?_) (fun y h1 h2 => ?_)
  · unfold cn_BB
    omega
  · unfold cn_BB
    omega
/-- behind one hop over contact 1 a bundle is at v -/
theorem cn_ry1 {q : cn_Q} (hq : cn_ok q) {T i g : Nat} : cn_ry q T i [(1, g)] = max (g + 1) T := by
  have hz := cn_z9 hq i
  show max (g + cn_t 1 (cn_z q i) + 0) T = max (g + 1) T
  rw [cn_t9 (by omega) hz.1 hz.2]
theorem cn_vF0 {q : cn_Q} (hq : cn_ok q) {n T i g : Nat} {C : Nat → Bool} {B : Nat → Nat → Prop} {l : List (Nat × Nat)} (hl : l = [(1, g)]) (hg : g ≤ 100) (hT : T ≤ 300) (hn : 2 ≤ n) (hc : ∀ k, 2 ≤ k → k < n → ∀ z r, 1 ≤ z ∧ z ≤ 30 → cn_c q C B z k r = 1000000) : cn_nd q l ≠ cn_b q ∧ cn_FR q n C B (cn_z q i) (cn_nd q l) (cn_ry q T i l) [] 0 := by
  subst hl
  have hz := cn_z9 hq i
  have e : cn_nd q [(1, g)] = cn_v q := rfl
  rw [cn_ry1 hq, e]
  exact ⟨hq.2.2.2.2.2.1, cn_FV0 hq (by omega) hn (fun k h1 h2 => hc k h1 h2 _ _ (by omega))⟩
theorem cn_uid {α : Type} {f : Nat → α} {i : Nat} {x : α} (h : x = f i) (j : Nat) : f j = cn_u f i x j := by
  by_cases e : j = i
  · rw [e, cn_us, h]
  · rw [cn_un e]
theorem cn_rtv0 {post : St2 → Prop} {u : St2} {q : cn_Q} {n T : Nat} {C : Nat → Bool} {B : Nat → Nat → Prop} {R : Nat → Bool} {H : Nat → List (Nat × Nat)} {A : Nat → Int32} {f i g : Nat} (hq : cn_ok q) (h : cn_I q n 3 T C B R H A u) (hi : i < 3) (hR : R i = false) (hl : H i = [(1, g)]) (hg : g ≤ 100) (hT : T ≤ 300) (hn : 2 ≤ n) (hc : ∀ k, 2 ≤ k → k < n → ∀ z r, 1 ≤ z ∧ z ≤ 30 → cn_c q C B z k r = 1000000) (K : ∀ u', cn_I q n 3 T C B R H A u' → cn_rt post f (i + 1) u') : cn_rt post (f + 1) i u := by
  obtain ⟨h1, h2⟩ := cn_vF0 hq (i := i) hl hg hT hn hc
  refine cn_rt_n hq h hi hR h1 h2 (Or.inl rfl) (by rw [hl]; show 1 + 0 ≤ 9; omega) (fun u' h' => K u' (cn_I_R h' (fun j _ => cn_uid hR.symm j) (fun j _ => cn_uid (List.append_nil _) j)))
theorem cn_85v0 {post : Int32 → St2 → Prop} {u : St2} {q : cn_Q} {n T : Nat} {C : Nat → Bool} {B : Nat → Nat → Prop} {R : Nat → Bool} {H : Nat → List (Nat × Nat)} {A : Nat → Int32} {f x i g : Nat} (hq : cn_ok q) (h : cn_I q n 3 T C B R H A u) (hi : i < 3) (hA : A i = 1) (hl : H i = [(1, g)]) (hg : g ≤ 100) (hT : T ≤ 300) (hn : 2 ≤ n) (hc : ∀ k, 2 ≤ k → k < n → ∀ z r, 1 ≤ z ∧ z ≤ 30 → cn_c q C B z k r = 1000000) (K : ∀ u', cn_I q n 3 T C B (cn_u R i false) H A u' → cn_c85 post x f (i + 1) u') : cn_c85 post x (f + 1) i u := by
  obtain ⟨h1, h2⟩ := cn_vF0 hq (i := i) hl hg hT hn hc
  refine cn_c85_y hq h hi hA h1 h2 (Or.inl rfl) (by rw [hl]; show 1 + 0 ≤ 9; omega) (fun u' h' => K u' (cn_I_R h' (fun j _ => rfl) (fun j _ => cn_uid (List.append_nil _) j)))
theorem cn_rtv1 {post : St2 → Prop} {u : St2} {q : cn_Q} {n T : Nat} {C : Nat → Bool} {B : Nat → Nat → Prop} {R : Nat → Bool} {H : Nat → List (Nat × Nat)} {A : Nat → Int32} {f i g k y : Nat} (hq : cn_ok q) (h : cn_I q n 3 T C B R H A u) (hi : i < 3) (hR : R i = false) (hl : H i = [(1, g)]) (hg : g ≤ 100) (hT : T ≤ 300) (hn : n = k + 1) (hk : 2 ≤ k) (hc : ∀ j, 2 ≤ j → j < k → ∀ z r, 1 ≤ z ∧ z ≤ 30 → cn_c q C B z j r = 1000000) (hC : C k = false) (hf : ∀ z, 1 ≤ z ∧ z ≤ 9 → cn_fb (B k) (cn_t k z) (cn_E q k - max (max (g + 1) T) (cn_S q k)) 0 (max (max (g + 1) T) (cn_S q k)) = some y) (hy : y ≤ 90) (K : ∀ u', cn_I q n 3 T C (cn_B1 B k y 1) (cn_u R i true) (cn_u H i [(1, g), (k, y)]) A u' → cn_rt post f (i + 1) u') : cn_rt post (f + 1) i u := by
  have hz := cn_z9 hq i
  have ht : cn_t k (cn_z q i) = 1 := cn_t9 (by omega) hz.1 hz.2
  have hD := cn_D9 k
  have hll : cn_l i ≥ 100 := by
    unfold cn_l
    split <;> omega
  have e : cn_nd q (H i) = cn_v q := by rw [hl]; rfl
  have hF : cn_FR q n C B (cn_z q i) (cn_nd q (H i)) (cn_ry q T i (H i)) [(k, y)] (y + cn_t k (cn_z q i) + cn_D k) := by
    rw [e, hl, cn_ry1 hq]
    exact cn_FV1 hq (by omega) (by omega) hn hk (fun j h1 h2 => hc j h1 h2 _ _ (by omega)) hC (hf _ hz) rfl
  refine cn_rt_n hq h hi hR (by rw [e]; exact hq.2.2.2.2.2.1) hF (Or.inr (by omega)) (by rw [hl]; show 1 + 1 ≤ 9; omega) (fun u' h' => K u' (cn_I_R (cn_I_B h' (fun k' y' _ _ => ?_)) (fun j _ => rfl) (fun j _ => ?_)))
  · show cn_B1 B k y (cn_t k (cn_z q i)) k' y' ↔ _
    rw [ht]
  · rw [hl]
    rfl
end
section
theorem cn_Bs1 {z k g k' y : Nat} {B : Nat → Nat → Prop} : cn_Bs z [(k, g)] B k' y ↔ B k' y ∨ (k' = k ∧ g ≤ y ∧ y < g + cn_t k z) := Iff.rfl
theorem cn_Bs2 {z k1 g1 k2 g2 k' y : Nat} {B : Nat → Nat → Prop} : cn_Bs z [(k1, g1), (k2, g2)] B k' y ↔ (B k' y ∨ (k' = k1 ∧ g1 ≤ y ∧ y < g1 + cn_t k1 z)) ∨ (k' = k2 ∧ g2 ≤ y ∧ y < g2 + cn_t k2 z) := Iff.rfl
theorem cn_Bc1 {z k g k' y : Nat} {B : Nat → Nat → Prop} : cn_Bc z [(k, g)] B k' y ↔ B k' y ∧ ¬ (k' = k ∧ g ≤ y ∧ y < g + cn_t k z) := Iff.rfl
theorem cn_ob1 {k tk T k' g : Nat} : cn_ob k tk T [(k', g)] 0 = if k' = k ∧ T < g + tk then some 0 else none := rfl
theorem cn_ob2 {k tk T k1 g1 k2 g2 : Nat} : cn_ob k tk T [(k1, g1), (k2, g2)] 0 = if k1 = k ∧ T < g1 + tk then some 0 else if k2 = k ∧ T < g2 + tk then some 1 else none := rfl
theorem cn_RTt {q : cn_Q} {n T : Nat} {C : Nat → Bool} {A : Nat → Int32} {B : Nat → Nat → Prop} {R : Nat → Bool} {H : Nat → List (Nat × Nat)} (h0 : R 0 = true) (h1 : R 1 = true) (h2 : R 2 = true) : cn_RT q n 3 T C A B R H B R H :=
  fun _ u h K => ⟨4, cn_rt_y h (by omega) h0 (cn_rt_y h (by omega) h1 (cn_rt_y h (by omega) h2 (cn_rt_x h (K u h))))⟩
/-- the three bundles are sent -/
theorem cn_Ts0 {post : Int32 → St2 → Prop} {u : St2} {q : cn_Q} {A : Nat → Int32} {x0 x1 x2 : Int32} (hq : cn_ok q) (h : cn_I q 1 0 0 cn_C0 (cn_BB (cn_s q) (cn_s q) 0 0 0 30 60 60) (cn_3 false false false false) (cn_3 [] [] [] []) A u)
    (K : ∀ u', cn_I q 1 1 0 cn_C0 (cn_BB (cn_s q) (cn_s q + cn_o q) 0 0 0 30 60 60) (cn_3 false true false false) (cn_3 [] [(0, cn_s q)] [] []) A u' → post (nI 0) u') (e0 : x0 = nI (6 * cn_a q + cn_b q)) (e1 : x1 = nI (cn_o q)) (e2 : x2 = nI 100) : wpX_send post u x0 x1 x2 := by
  have hok := hq
  obtain ⟨_, _, _, _, _, _, h7, h8, h9, h10, h11⟩ := hok
  have ez : cn_z q 0 = cn_o q := rfl
  have et : cn_t 0 (cn_o q) = cn_o q := cn_t0
  have eD : cn_D 0 = 0 := rfl
  have el : cn_l 0 = 100 := rfl
  refine cn_send (rt := [(0, cn_s q)]) (best := cn_s q + cn_o q) hq h (by omega) (cn_FA1 hq (by omega) rfl (by omega) (cn_g0 (by omega) (by omega) (by omega)) (by rw [ez]; omega)) (Or.inr (by omega)) (show 1 ≤ 9 by omega) (fun u' h' => K u' (cn_norm h' (fun k y _ _ => ?_))) e0 e1 e2
  rw [cn_Bs1, ez, et]
  unfold cn_BB
  omega
theorem cn_Ts1 {post : Int32 → St2 → Prop} {u : St2} {q : cn_Q} {A : Nat → Int32} {x0 x1 x2 : Int32} (hq : cn_ok q) (h : cn_I q 1 1 0 cn_C0 (cn_BB (cn_s q) (cn_s q + cn_o q) 0 0 0 30 60 60) (cn_3 false true false false) (cn_3 [] [(0, cn_s q)] [] []) A u)
    (K : ∀ u', cn_I q 1 2 0 cn_C0 (cn_BB (cn_s q) (cn_s q + cn_o q + cn_w q) 0 0 0 30 60 60) (cn_3 false true true false) (cn_3 [] [(0, cn_s q)] [(0, cn_s q + cn_o q)] []) A u' → post (nI 1) u') (e0 : x0 = nI (6 * cn_a q + cn_b q)) (e1 : x1 = nI (cn_w q)) (e2 : x2 = nI 100) : wpX_send post u x0 x1 x2 := by
  have hok := hq
  obtain ⟨_, _, _, _, _, _, h7, h8, h9, h10, h11⟩ := hok
  have ez : cn_z q 1 = cn_w q := rfl
  have et : cn_t 0 (cn_w q) = cn_w q := cn_t0
  have eD : cn_D 0 = 0 := rfl
  have el : cn_l 1 = 100 := rfl
  refine cn_send (rt := [(0, cn_s q + cn_o q)]) (best := cn_s q + cn_o q + cn_w q) hq h (by omega) (cn_FA1 hq (by omega) rfl (by omega) (cn_g0 (by omega) (by omega) (by omega)) (by rw [ez]; omega)) (Or.inr (by omega)) (show 1 ≤ 9 by omega) (fun u' h' => K u' (cn_norm h' (fun k y _ _ => ?_))) e0 e1 e2
  rw [cn_Bs1, ez, et]
  unfold cn_BB
  omega
theorem cn_Ts2 {post : Int32 → St2 → Prop} {u : St2} {q : cn_Q} {A : Nat → Int32} {x0 x1 x2 : Int32} (hq : cn_ok q) (h : cn_I q 1 2 0 cn_C0 (cn_BB (cn_s q) (cn_s q + cn_o q + cn_w q) 0 0 0 30 60 60) (cn_3 false true true false) (cn_3 [] [(0, cn_s q)] [(0, cn_s q + cn_o q)] []) A u)
    (K : ∀ u', cn_I q 1 3 0 cn_C0 (cn_BB (cn_s q) (cn_s q + cn_o q + cn_w q) 0 0 0 30 60 60) (cn_3 false true true false) (cn_3 [] [(0, cn_s q)] [(0, cn_s q + cn_o q)] []) A u' → post (nI 2) u') (e0 : x0 = nI (6 * cn_a q + cn_b q)) (e1 : x1 = nI 1) (e2 : x2 = nI 200) : wpX_send post u x0 x1 x2 := by
  have hz := cn_z9 hq 2
  exact cn_send (rt := []) (best := 0) hq h (by omega) (cn_FA0 hq (by omega) (by omega) (cn_f0 (by omega))) (Or.inl rfl) (show 0 ≤ 9 by omega) (fun u' h' => K u' (cn_norm h' (fun k y _ _ => Iff.rfl))) e0 e1 e2
/-- contact 1: nothing is gained -/
theorem cn_Tc1 {post : Int32 → St2 → Prop} {u : St2} {q : cn_Q} {A : Nat → Int32} {x0 x1 x2 : Int32} (hq : cn_ok q) (h : cn_I q 1 3 0 cn_C0 (cn_BB (cn_s q) (cn_s q + cn_o q + cn_w q) 0 0 0 30 60 60) (cn_3 false true true false) (cn_3 [] [(0, cn_s q)] [(0, cn_s q + cn_o q)] []) A u)
    (K : ∀ u', cn_I q 2 3 0 cn_C0 (cn_BB (cn_s q) (cn_s q + cn_o q + cn_w q) 0 0 0 30 60 60) (cn_3 false true true false) (cn_3 [] [(0, cn_s q)] [(0, cn_s q + cn_o q)] []) A u' → post (nI 1) u') (e0 : x0 = nI (6 * cn_a q + cn_v q)) (e1 : x1 = nI 50) (e2 : x2 = nI 90) : wpX_contact post u x0 x1 x2 := by
  have hz := cn_z9 hq 2
  refine cn_contact hq h (by omega) (fun post u h K => ⟨4, cn_rt_y h (by omega) rfl (cn_rt_y h (by omega) rfl (cn_rt_n (rt := []) (best := 0) hq h (by omega) rfl hq.2.2.2.2.1 ?_ (Or.inl rfl) (show 0 ≤ 9 by omega) (fun u' h' => cn_rt_x h' (K u' (cn_norm h' (fun k y _ _ => Iff.rfl))))))⟩) K e0 e1 e2
  exact cn_FA0 (z := cn_z q 2) (r := 0) hq (by omega) (by omega) (cn_f0 (by omega))
/-- contact 2: bundle 2 gets its route -/
theorem cn_Tc2 {post : Int32 → St2 → Prop} {u : St2} {q : cn_Q} {A : Nat → Int32} {x0 x1 x2 : Int32} (hq : cn_ok q) (h : cn_I q 2 3 0 cn_C0 (cn_BB (cn_s q) (cn_s q + cn_o q + cn_w q) 0 0 0 30 60 60) (cn_3 false true true false) (cn_3 [] [(0, cn_s q)] [(0, cn_s q + cn_o q)] []) A u)
    (K : ∀ u', cn_I q 3 3 0 cn_C0 (cn_BB (cn_s q) (cn_s q + cn_o q + cn_w q) 1 0 0 31 60 60) (cn_3 false true true true) (cn_3 [] [(0, cn_s q)] [(0, cn_s q + cn_o q)] [(1, 0), (2, 30)]) A u' → post (nI 2) u') (e0 : x0 = nI (6 * cn_v q + cn_b q)) (e1 : x1 = nI 3129) (e2 : x2 = nI 93) : wpX_contact post u x0 x1 x2 := by
  have hz := cn_z9 hq 2
  have t1 : cn_t 1 (cn_z q 2) = 1 := cn_t9 (by omega) hz.1 hz.2
  have t2 : cn_t 2 (cn_z q 2) = 1 := cn_t9 (by omega) hz.1 hz.2
  have d1 : cn_D 1 = 0 := rfl
  have d2 : cn_D 2 = 3 := rfl
  have hl : cn_l 2 = 200 := rfl
  have hF : cn_FR q 3 cn_C0 (cn_BB (cn_s q) (cn_s q + cn_o q + cn_w q) 0 0 0 30 60 60) (cn_z q 2) (cn_a q) 0 [(1, 0), (2, 30)] 34 :=
    cn_FA2 hq (by omega) (cn_f0 (by omega)) rfl rfl (by omega) (cn_g1 hz (by omega) (by omega) (fun y h1 h2 => absurd h2 (by omega)) (by omega)) (cn_g2 hz (by omega) (by omega) (by omega)) (by omega)
  refine cn_contact hq h (by omega) (fun post u h K => ⟨4, cn_rt_y h (by omega) rfl (cn_rt_y h (by omega) rfl (cn_rt_n (rt := [(1, 0), (2, 30)]) (best := 34) hq h (by omega) rfl hq.2.2.2.2.1 hF (Or.inr (show 34 ≤ 200 by omega)) (show 0 + 2 ≤ 9 by omega) (fun u' h' => cn_rt_x h' (K u' (cn_norm h' (fun k y _ _ => ?_))))))⟩) K e0 e1 e2
  rw [cn_Bs2, t1, t2]
  unfold cn_BB
  omega
/-- cancel, when no bundle is hit and all are routed -/
theorem cn_can0 {post : Int32 → St2 → Prop} {u : St2} {q : cn_Q} {n T k : Nat} {C : Nat → Bool} {A : Nat → Int32} {B : Nat → Nat → Prop} {R : Nat → Bool} {H : Nat → List (Nat × Nat)} {x0 : Int32} (hq : cn_ok q) (h : cn_I q n 3 T C B R H A u) (hk : k < n) (hC : C k = false) (r0 : R 0 = true) (r1 : R 1 = true) (r2 : R 2 = true) (o0 : cn_ob k (cn_t k (cn_z q 0)) T (H 0) 0 = none) (o1 : cn_ob k (cn_t k (cn_z q 1)) T (H 1) 0 = none) (o2 : cn_ob k (cn_t k (cn_z q 2)) T (H 2) 0 = none)
    (K : ∀ A' u', cn_I q n 3 T (cn_u C k true) B R H A' u' → post (nI 0) u') (e0 : x0 = nI k := by rfl) : wpX_cancel post u x0 := by
  refine cn_cancel h hk hC (fun u1 h1 => ⟨4, cn_c30_n hq h1 hk (by omega) o0 (fun u2 h2 => cn_c30_n hq h2 hk (by omega) o1 (fun u3 h3 => cn_c30_n hq h3 hk (by omega) o2 (fun u4 h4 => cn_c30_x h4 ⟨4, ?_⟩)))⟩) e0
  exact cn_c85_n h4 (by omega) rfl (cn_c85_n h4 (by omega) rfl (cn_c85_n h4 (by omega) rfl (cn_c85_x h4 (cn_RTt r0 r1 r2) (fun u' h' => K _ u' h'))))
/-- a bundle that lost its booking on contact 0 goes over 1 and 2 -/
theorem cn_85a {post : Int32 → St2 → Prop} {u : St2} {q : cn_Q} {p e j l0 h0 : Nat} {R : Nat → Bool} {H : Nat → List (Nat × Nat)} {A : Nat → Int32} {f x i : Nat} (hq : cn_ok q) (he : e = max p 1) (hp : p ≤ 29) (hj : j ≤ 1) (h : cn_I q 3 3 p cn_C1 (cn_BB l0 h0 1 e (e + j) (31 + j) 60 60) R H A u) (hi : i < 3) (hA : A i = 1) (hl : H i = [])
    (K : ∀ u', cn_I q 3 3 p cn_C1 (cn_BB l0 h0 1 e (e + (j + 1)) (31 + (j + 1)) 60 60) (cn_u R i true) (cn_u H i [(1, e + j), (2, 31 + j)]) A u' → cn_c85 post x f (i + 1) u') : cn_c85 post x (f + 1) i u := by
  have hz := cn_z9 hq i
  have t1 : cn_t 1 (cn_z q i) = 1 := cn_t9 (by omega) hz.1 hz.2
  have t2 : cn_t 2 (cn_z q i) = 1 := cn_t9 (by omega) hz.1 hz.2
  have d1 : cn_D 1 = 0 := rfl
  have d2 : cn_D 2 = 3 := rfl
  have hll : cn_l i ≥ 100 := by
    unfold cn_l
    split <;> omega
  have en : cn_nd q (H i) = cn_a q := by rw [hl]; rfl
  have er : cn_ry q p i (H i) = p := by rw [hl]; rfl
  have hF : cn_FR q 3 cn_C1 (cn_BB l0 h0 1 e (e + j) (31 + j) 60 60) (cn_z q i) (cn_nd q (H i)) (cn_ry q p i (H i)) [(1, e + j), (2, 31 + j)] (35 + j) := by
    rw [en, er]
    exact cn_FA2 hq (by omega) (cn_cN rfl) rfl rfl (by omega) (cn_g1 hz (by omega) (by omega) (fun y h1 h2 => by omega) (by omega)) (cn_g2 hz (by omega) (by omega) (by omega)) (by omega)
  refine cn_c85_y hq h hi hA (by rw [en]; exact hq.2.2.2.2.1) hF (Or.inr (by omega)) (by rw [hl]; show 0 + 2 ≤ 9; omega) (fun u' h' => K u' (cn_I_R (cn_I_B h' (fun k y _ _ => ?_)) (fun _ _ => rfl) (fun _ _ => by rw [hl]; rfl)))
  rw [cn_Bs2, t1, t2]
  unfold cn_BB
  omega
theorem cn_Tx0F {post : Int32 → St2 → Prop} {u : St2} {q : cn_Q} {p e : Nat} {A : Nat → Int32} {x0 : Int32} (hq : cn_ok q) (he : e = max p 1) (hp : p ≤ 29) (hF : p < cn_s q + cn_o q) (h : cn_I q 3 3 p cn_C0 (cn_BB (cn_s q) (cn_s q + cn_o q + cn_w q) 1 0 0 31 60 60) (cn_3 false true true true) (cn_3 [] [(0, cn_s q)] [(0, cn_s q + cn_o q)] [(1, 0), (2, 30)]) A u)
    (K : ∀ A' u', cn_I q 3 3 p cn_C1 (cn_BB 0 0 1 e (e + 2) 33 60 60) (cn_3 false true true true) (cn_3 [] [(1, e), (2, 31)] [(1, e + 1), (2, 32)] [(1, 0), (2, 30)]) A' u' → post (nI 2) u') (e0 : x0 = nI 0 := by rfl) : wpX_cancel post u x0 := by
  have z0 : cn_z q 0 = cn_o q := rfl
  have z1 : cn_z q 1 = cn_w q := rfl
  have tt : ∀ z, cn_t 0 z = z := fun z => cn_t0
  refine cn_cancel h (by omega) rfl (fun u1 h1 => ⟨4, ?_⟩) e0
  refine cn_c30_y (j := 0) hq h1 (by omega) (by omega) (cn_ob1.trans (if_pos ⟨rfl, by rw [tt, z0]; exact hF⟩)) (fun u2 h2 => ?_)
  replace h2 := cn_norm (B' := cn_BB (cn_s q + cn_o q) (cn_s q + cn_o q + cn_w q) 1 0 0 31 60 60) (x0 := true) (x1 := true) (x2 := true) (y0 := []) (y1 := [(0, cn_s q + cn_o q)]) (y2 := [(1, 0), (2, 30)]) h2 (fun k y _ _ => by
    show cn_Bc (cn_z q 0) [(0, cn_s q)] _ k y ↔ _
    rw [cn_Bc1, tt, z0]
    unfold cn_BB
    omega)
  refine cn_c30_y (j := 0) hq h2 (by omega) (by omega) (cn_ob1.trans (if_pos ⟨rfl, by rw [tt, z1]; omega⟩)) (fun u3 h3 => ?_)
  replace h3 := cn_norm (B' := cn_BB 0 0 1 e (e + 0) (31 + 0) 60 60) (x0 := true) (x1 := true) (x2 := true) (y0 := []) (y1 := []) (y2 := [(1, 0), (2, 30)]) h3 (fun k y _ _ => by
    show cn_Bc (cn_z q 1) [(0, cn_s q + cn_o q)] _ k y ↔ _
    rw [cn_Bc1, tt, z1]
    unfold cn_BB
    omega)
  refine cn_c30_n hq h3 (by omega) (by omega) (cn_ob2.trans ((if_neg (fun z => nomatch z.1)).trans (if_neg (fun z => nomatch z.1)))) (fun u4 h4 => cn_c30_x h4 ⟨4, ?_⟩)
  refine cn_85a hq he hp (by omega) h4 (by omega) rfl rfl (fun u5 h5 => cn_85a hq he hp (by omega) h5 (by omega) rfl rfl (fun u6 h6 => cn_c85_n h6 (by omega) rfl ?_))
  exact cn_c85_x h6 (cn_RTt rfl rfl rfl) (fun u' h' => K _ u' (cn_norm h' (fun _ _ _ _ => Iff.rfl)))
theorem cn_Tx0S {post : Int32 → St2 → Prop} {u : St2} {q : cn_Q} {p e : Nat} {A : Nat → Int32} {x0 : Int32} (hq : cn_ok q) (he : e = max p 1) (hp : p ≤ 29) (hF : cn_s q + cn_o q ≤ p) (hS : p < cn_s q + cn_o q + cn_w q) (h : cn_I q 3 3 p cn_C0 (cn_BB (cn_s q) (cn_s q + cn_o q + cn_w q) 1 0 0 31 60 60) (cn_3 false true true true) (cn_3 [] [(0, cn_s q)] [(0, cn_s q + cn_o q)] [(1, 0), (2, 30)]) A u)
    (K : ∀ A' u', cn_I q 3 3 p cn_C1 (cn_BB (cn_s q) (cn_s q + cn_o q) 1 e (e + 1) 32 60 60) (cn_3 false true true true) (cn_3 [] [(0, cn_s q)] [(1, e), (2, 31)] [(1, 0), (2, 30)]) A' u' → post (nI 1) u') (e0 : x0 = nI 0 := by rfl) : wpX_cancel post u x0 := by
  have z0 : cn_z q 0 = cn_o q := rfl
  have z1 : cn_z q 1 = cn_w q := rfl
  have tt : ∀ z, cn_t 0 z = z := fun z => cn_t0
  refine cn_cancel h (by omega) rfl (fun u1 h1 => ⟨4, ?_⟩) e0
  refine cn_c30_n hq h1 (by omega) (by omega) (cn_ob1.trans (if_neg (by rw [tt, z0]; omega))) (fun u2 h2 => ?_)
  refine cn_c30_y (j := 0) hq h2 (by omega) (by omega) (cn_ob1.trans (if_pos ⟨rfl, by rw [tt, z1]; omega⟩)) (fun u3 h3 => ?_)
  replace h3 := cn_norm (B' := cn_BB (cn_s q) (cn_s q + cn_o q) 1 e (e + 0) (31 + 0) 60 60) (x0 := true) (x1 := true) (x2 := true) (y0 := [(0, cn_s q)]) (y1 := []) (y2 := [(1, 0), (2, 30)]) h3 (fun k y _ _ => by
    show cn_Bc (cn_z q 1) [(0, cn_s q + cn_o q)] _ k y ↔ _
    rw [cn_Bc1, tt, z1]
    unfold cn_BB
    omega)
  refine cn_c30_n hq h3 (by omega) (by omega) (cn_ob2.trans ((if_neg (fun z => nomatch z.1)).trans (if_neg (fun z => nomatch z.1)))) (fun u4 h4 => cn_c30_x h4 ⟨4, ?_⟩)
  refine cn_c85_n h4 (by omega) rfl (cn_85a hq he hp (by omega) h4 (by omega) rfl rfl (fun u6 h6 => cn_c85_n h6 (by omega) rfl ?_))
  exact cn_c85_x h6 (cn_RTt rfl rfl rfl) (fun u' h' => K _ u' (cn_norm h' (fun _ _ _ _ => Iff.rfl)))
theorem cn_Tx0N {post : Int32 → St2 → Prop} {u : St2} {q : cn_Q} {p e : Nat} {A : Nat → Int32} {x0 : Int32} (hq : cn_ok q) (hN : cn_s q + cn_o q + cn_w q ≤ p) (h : cn_I q 3 3 p cn_C0 (cn_BB (cn_s q) (cn_s q + cn_o q + cn_w q) 1 0 0 31 60 60) (cn_3 false true true true) (cn_3 [] [(0, cn_s q)] [(0, cn_s q + cn_o q)] [(1, 0), (2, 30)]) A u)
    (K : ∀ A' u', cn_I q 3 3 p cn_C1 (cn_BB (cn_s q) (cn_s q + cn_o q + cn_w q) 1 e (e + 0) 31 60 60) (cn_3 false true true true) (cn_3 [] [(0, cn_s q)] [(0, cn_s q + cn_o q)] [(1, 0), (2, 30)]) A' u' → post (nI 0) u') (e0 : x0 = nI 0 := by rfl) : wpX_cancel post u x0 := by
  have z0 : cn_z q 0 = cn_o q := rfl
  have z1 : cn_z q 1 = cn_w q := rfl
  have tt : ∀ z, cn_t 0 z = z := fun z => cn_t0
  refine cn_can0 hq h (by omega) rfl rfl rfl rfl (cn_ob1.trans (if_neg (by rw [tt, z0]; omega))) (cn_ob1.trans (if_neg (by rw [tt, z1]; omega))) (cn_ob2.trans ((if_neg (fun z => nomatch z.1)).trans (if_neg (fun z => nomatch z.1)))) (fun A' u' h' => K A' u' (cn_norm h' (fun k y _ _ => ?_))) e0
  unfold cn_BB
  omega
end
section
/-- from a, over 1 and 2: behind cancel(0), for bundles of size 9 -/
theorem cn_qa {q : cn_Q} {l0 h0 e h r g : Nat} (hq : cn_ok q) (hr : r ≤ g) (hg : g ≤ 30 + h) (hh : h ≤ 2) (hb : ∀ y, r ≤ y → y < g → y < 1 ∨ (e ≤ y ∧ y < e + h)) (hn : ¬ (g < 1 ∨ (e ≤ g ∧ g < e + h))) : cn_sp q (cn_c q cn_C1 (cn_BB l0 h0 1 e (e + h) (31 + h) 60 60) 9) 3 (cn_a q) r 5 (cn_b q) = 35 + h := by
  have t1 : cn_t 1 9 = 1 := rfl
  have t2 : cn_t 2 9 = 1 := rfl
  have d1 : cn_D 1 = 0 := rfl
  have d2 : cn_D 2 = 3 := rfl
  have f1 := cn_g1 (q := q) (l0 := l0) (h0 := h0) (h2 := 31 + h) (h3 := 60) (h4 := 60) (z := 9) (by omega) hr (by omega) hb hn
  have c1 := cn_c1 (q := q) (C := cn_C1) (by omega) rfl (by omega) f1
  have f2 := cn_g2 (q := q) (l0 := l0) (h0 := h0) (z1 := 1) (l1 := e) (h1 := e + h) (h2 := 31 + h) (h3 := 60) (h4 := 60) (z := 9) (r := g + cn_t 1 9 + cn_D 1) (g := 31 + h) (by omega) (by omega) (by omega) (by omega)
  have c2 := cn_c1 (q := q) (C := cn_C1) (by omega) rfl (by omega) f2
  rw [cn_sp_a2 hq (fun k => cn_c_N) (fun k r => cn_c_le hq) (by omega) (x := g + cn_t 1 9 + cn_D 1) (by rw [if_pos (by omega), c1]) 3, cn_tr_b hq, cn_cN rfl, cn_dd1 (fun j h1 h2 => absurd h2 (by omega)) (by omega) (cn_c_le hq), c2]
  omega
theorem cn_qb {q : cn_Q} {l0 h0 e h r : Nat} (hq : cn_ok q) (hr : 30 + h < r) (hh : h ≤ 2) : 35 + h < cn_sp q (cn_c q cn_C1 (cn_BB l0 h0 1 e (e + h) (31 + h) 60 60) 9) 3 (cn_a q) r 5 (cn_b q) := by
  have t1 : cn_t 1 9 = 1 := rfl
  have t2 : cn_t 2 9 = 1 := rfl
  have d1 : cn_D 1 = 0 := rfl
  have d2 : cn_D 2 = 3 := rfl
  rw [cn_sp_a2 hq (fun k => cn_c_N) (fun k r => cn_c_le hq) (by omega) (x := cn_c q cn_C1 (cn_BB l0 h0 1 e (e + h) (31 + h) 60 60) 9 1 r) (by rw [if_pos (by omega)]) 3, cn_tr_b hq, cn_cN rfl, cn_dd1 (fun j h1 h2 => absurd h2 (by omega)) (by omega) (cn_c_le hq)]
  have k1 : cn_c q cn_C1 (cn_BB l0 h0 1 e (e + h) (31 + h) 60 60) 9 1 r < 1000000 → r + cn_t 1 9 + cn_D 1 ≤ cn_c q cn_C1 (cn_BB l0 h0 1 e (e + h) (31 + h) 60 60) 9 1 r := fun z => (cn_ci_ge z).1
  have k1' := cn_c_le hq (C := cn_C1) (B := cn_BB l0 h0 1 e (e + h) (31 + h) 60 60) (z := 9) (k := 1) (r := r)
  generalize cn_c q cn_C1 (cn_BB l0 h0 1 e (e + h) (31 + h) 60 60) 9 1 r = x at k1 k1'
  rcases Nat.lt_or_ge x 1000000 with hx | hx
  · have k3 := k1 hx
    have k2 : cn_c q cn_C1 (cn_BB l0 h0 1 e (e + h) (31 + h) 60 60) 9 2 x < 1000000 → x + cn_t 2 9 + cn_D 2 ≤ cn_c q cn_C1 (cn_BB l0 h0 1 e (e + h) (31 + h) 60 60) 9 2 x := fun z => (cn_ci_ge z).1
    omega
  · have e : x = 1000000 := by omega
    rw [e, cn_c_N]
    omega
theorem cn_qv {q : cn_Q} {l0 h0 e h r : Nat} (hq : cn_ok q) (hr : r ≤ 100) (hh : h ≤ 2) : r ≤ 98 ↔ cn_sp q (cn_c q cn_C1 (cn_BB l0 h0 1 e (e + h) (31 + h) 60 60) 9) 3 (cn_v q) r 5 (cn_b q) ≤ 1000 := by
  have t2 : cn_t 2 9 = 1 := rfl
  have d2 : cn_D 2 = 3 := rfl
  rw [cn_spv hq (by omega) (by omega) 4, cn_dd1 (fun j h1 h2 => absurd h2 (by omega)) (by omega) (cn_c_le hq)]
  rcases Nat.lt_or_ge r 99 with hx | hx
  · have f2 := cn_g2 (q := q) (l0 := l0) (h0 := h0) (z1 := 1) (l1 := e) (h1 := e + h) (h2 := 31 + h) (h3 := 60) (h4 := 60) (z := 9) (r := r) (g := max r (31 + h)) (by omega) (by omega) rfl (by omega)
    have c2 := cn_c1 (q := q) (C := cn_C1) (by omega) rfl (by omega) f2
    rw [c2]
    omega
  · have e2 : cn_E q 2 = 99 := rfl
    have c2 : cn_c q cn_C1 (cn_BB l0 h0 1 e (e + h) (31 + h) 60 60) 9 2 r = 1000000 := cn_c0 (by omega) (fun y h1 h2 h3 => absurd h3 (by omega))
    rw [c2]
    omega
/-- the first free tick of contact 1 from r on -/
theorem cn_fr1st {p e h r : Nat} (he : e = max p 1) (hp : p ≤ 29) (hpr : p ≤ r) (hr : r ≤ 30 + h) : ∃ g, r ≤ g ∧ g ≤ 30 + h ∧ (∀ y, r ≤ y → y < g → y < 1 ∨ (e ≤ y ∧ y < e + h)) ∧ ¬ (g < 1 ∨ (e ≤ g ∧ g < e + h)) := by
  rcases Nat.lt_or_ge r (e + h) with z | z
  · exact ⟨e + h, by omega, by omega, fun y h1 h2 => by omega, by omega⟩
  · exact ⟨r, by omega, by omega, fun y h1 h2 => absurd h2 (by omega), by omega⟩
theorem cn_qth {q : cn_Q} {l0 h0 p e h : Nat} (hq : cn_ok q) (he : e = max p 1) (hp : p ≤ 29) (hh : h ≤ 2) : ∀ r, p ≤ r → r ≤ 100 → (r ≤ 30 + h ↔ cn_sp q (cn_c q cn_C1 (cn_BB l0 h0 1 e (e + h) (31 + h) 60 60) 9) 3 (cn_a q) r 5 (cn_b q) ≤ 35 + h) := by
  intro r h1 h2
  rcases Nat.lt_or_ge (30 + h) r with z | z
  · have := cn_qb (l0 := l0) (h0 := h0) (e := e) hq z hh
    omega
  · obtain ⟨g, g1, g2, g3, g4⟩ := cn_fr1st he hp h1 z
    rw [cn_qa hq g1 g2 hh g3 g4]
    omega
/-- contact 2 is cancelled: no way from v -/
theorem cn_hc3 {q : cn_Q} {C : Nat → Bool} {B : Nat → Nat → Prop} (h : C 2 = true) : ∀ k, 2 ≤ k → k < 3 → ∀ z r, 1 ≤ z ∧ z ≤ 30 → cn_c q C B z k r = 1000000 := by
  intro k h1 h2 z r _
  have e : k = 2 := by omega
  subst e
  exact cn_cN h
theorem cn_hc4 {q : cn_Q} {C : Nat → Bool} {l0 h0 z1 l1 h1 h2 h4 : Nat} (h : C 2 = true) : ∀ k, 2 ≤ k → k < 4 → ∀ z r, 1 ≤ z ∧ z ≤ 30 → cn_c q C (cn_BB l0 h0 z1 l1 h1 h2 61 h4) z k r = 1000000 := by
  intro k h1 h2 z r hz
  rcases (show k = 2 ∨ k = 3 by omega) with e | e <;> subst e
  · exact cn_cN h
  · exact cn_f3 hz
theorem cn_hc5 {q : cn_Q} {C : Nat → Bool} {B : Nat → Nat → Prop} (h2 : C 2 = true) (h3 : C 3 = true) (h4 : C 4 = true) : ∀ k, 2 ≤ k → k < 5 → ∀ z r, 1 ≤ z ∧ z ≤ 30 → cn_c q C B z k r = 1000000 := by
  intro k k1 k2 z r hz
  rcases (show k = 2 ∨ k = 3 ∨ k = 4 by omega) with e | e | e <;> subst e
  · exact cn_cN h2
  · exact cn_cN h3
  · exact cn_cN h4
theorem cn_o12 {k tk T k1 g1 k2 g2 : Nat} (h1 : k1 ≠ k) (h2 : k2 = k) (h : T < g2 + tk) : cn_ob k tk T [(k1, g1), (k2, g2)] 0 = some 1 :=
  cn_ob2.trans ((if_neg (fun z => h1 z.1)).trans (if_pos ⟨h2, h⟩))
theorem cn_o2n {k tk T k1 g1 k2 g2 : Nat} (h1 : k1 ≠ k) (h2 : k2 ≠ k ∨ g2 + tk ≤ T) : cn_ob k tk T [(k1, g1), (k2, g2)] 0 = none :=
  cn_ob2.trans ((if_neg (fun z => h1 z.1)).trans (if_neg (fun z => by omega)))
theorem cn_o1n {k tk T k1 g1 : Nat} (h1 : k1 ≠ k) : cn_ob k tk T [(k1, g1)] 0 = none :=
  cn_ob1.trans (if_neg (fun z => h1 z.1))
theorem cn_Tx2F {post : Int32 → St2 → Prop} {u : St2} {q : cn_Q} {p e : Nat} {A : Nat → Int32} {x0 : Int32} (hq : cn_ok q) (he : e = max p 1) (hp : p ≤ 29) (h : cn_I q 3 3 p cn_C1 (cn_BB 0 0 1 e (e + 2) 33 60 60) (cn_3 false true true true) (cn_3 [] [(1, e), (2, 31)] [(1, e + 1), (2, 32)] [(1, 0), (2, 30)]) A u)
    (K : ∀ A' u', cn_I q 3 3 p cn_C2 (cn_BB 0 0 1 e (e + 2) 30 60 60) (cn_3 false false false false) (cn_3 [] [(1, e)] [(1, e + 1)] [(1, 0)]) A' u' → post (nI 3) u') (e0 : x0 = nI 2 := by rfl) : wpX_cancel post u x0 := by
  have t0 : cn_t 2 (cn_z q 0) = 1 := cn_t9 (by omega) (cn_z9 hq 0).1 (cn_z9 hq 0).2
  have t1 : cn_t 2 (cn_z q 1) = 1 := cn_t9 (by omega) (cn_z9 hq 1).1 (cn_z9 hq 1).2
  have t2 : cn_t 2 (cn_z q 2) = 1 := cn_t9 (by omega) (cn_z9 hq 2).1 (cn_z9 hq 2).2
  refine cn_cancel h (by omega) rfl (fun u1 h1 => ⟨4, ?_⟩) e0
  refine cn_c30_y (j := 1) hq h1 (by omega) (by omega) (cn_o12 (by omega) rfl (by omega)) (fun u2 h2 => ?_)
  replace h2 := cn_norm (x0 := true) (x1 := true) (x2 := true) (y0 := [(1, e)]) (y1 := [(1, e + 1), (2, 32)]) (y2 := [(1, 0), (2, 30)]) h2 (fun k y _ _ => Iff.rfl)
  refine cn_c30_y (j := 1) hq h2 (by omega) (by omega) (cn_o12 (by omega) rfl (by omega)) (fun u3 h3 => ?_)
  replace h3 := cn_norm (x0 := true) (x1 := true) (x2 := true) (y0 := [(1, e)]) (y1 := [(1, e + 1)]) (y2 := [(1, 0), (2, 30)]) h3 (fun k y _ _ => Iff.rfl)
  refine cn_c30_y (j := 1) hq h3 (by omega) (by omega) (cn_o12 (by omega) rfl (by omega)) (fun u4 h4 => ?_)
  replace h4 := cn_norm (B' := cn_BB 0 0 1 e (e + 2) 30 60 60) (x0 := true) (x1 := true) (x2 := true) (y0 := [(1, e)]) (y1 := [(1, e + 1)]) (y2 := [(1, 0)]) h4 (fun k y _ _ => by
    show cn_Bc (cn_z q 2) [(2, 30)] (cn_Bc (cn_z q 1) [(2, 32)] (cn_Bc (cn_z q 0) [(2, 31)] _)) k y ↔ _
    rw [cn_Bc1, cn_Bc1, cn_Bc1, t0, t1, t2]
    unfold cn_BB
    omega)
  refine cn_c30_x h4 ⟨4, ?_⟩
  refine cn_85v0 (g := e) hq h4 (by omega) rfl rfl (by omega) (by omega) (by omega) (cn_hc3 rfl) (fun u5 h5 => ?_)
  refine cn_85v0 (g := e + 1) hq h5 (by omega) rfl rfl (by omega) (by omega) (by omega) (cn_hc3 rfl) (fun u6 h6 => ?_)
  refine cn_85v0 (g := 0) hq h6 (by omega) rfl rfl (by omega) (by omega) (by omega) (cn_hc3 rfl) (fun u7 h7 => ?_)
  replace h7 := cn_norm (x0 := false) (x1 := false) (x2 := false) (y0 := [(1, e)]) (y1 := [(1, e + 1)]) (y2 := [(1, 0)]) h7 (fun k y _ _ => Iff.rfl)
  exact cn_c85_x h7 (fun post u h K => ⟨4, cn_rtv0 (g := e) hq h (by omega) rfl rfl (by omega) (by omega) (by omega) (cn_hc3 rfl) (fun u' h' => cn_rtv0 (g := e + 1) hq h' (by omega) rfl rfl (by omega) (by omega) (by omega) (cn_hc3 rfl) (fun u' h' => cn_rtv0 (g := 0) hq h' (by omega) rfl rfl (by omega) (by omega) (by omega) (cn_hc3 rfl) (fun u' h' => cn_rt_x h' (K u' h'))))⟩) (fun u' h' => K _ u' h')
theorem cn_Tx2S {post : Int32 → St2 → Prop} {u : St2} {q : cn_Q} {p e l0 h0 x : Nat} {A : Nat → Int32} {x0 : Int32} (hq : cn_ok q) (he : e = max p 1) (hp : p ≤ 29) (h : cn_I q 3 3 p cn_C1 (cn_BB l0 h0 1 e (e + 1) 32 60 60) (cn_3 false true true true) (cn_3 [] [(0, x)] [(1, e), (2, 31)] [(1, 0), (2, 30)]) A u)
    (K : ∀ A' u', cn_I q 3 3 p cn_C2 (cn_BB l0 h0 1 e (e + 1) 30 60 60) (cn_3 false true false false) (cn_3 [] [(0, x)] [(1, e)] [(1, 0)]) A' u' → post (nI 2) u') (e0 : x0 = nI 2 := by rfl) : wpX_cancel post u x0 := by
  have t1 : cn_t 2 (cn_z q 1) = 1 := cn_t9 (by omega) (cn_z9 hq 1).1 (cn_z9 hq 1).2
  have t2 : cn_t 2 (cn_z q 2) = 1 := cn_t9 (by omega) (cn_z9 hq 2).1 (cn_z9 hq 2).2
  refine cn_cancel h (by omega) rfl (fun u1 h1 => ⟨4, ?_⟩) e0
  refine cn_c30_n hq h1 (by omega) (by omega) (cn_o1n (by omega)) (fun u2 h2 => ?_)
  refine cn_c30_y (j := 1) hq h2 (by omega) (by omega) (cn_o12 (by omega) rfl (by omega)) (fun u3 h3 => ?_)
  replace h3 := cn_norm (x0 := true) (x1 := true) (x2 := true) (y0 := [(0, x)]) (y1 := [(1, e)]) (y2 := [(1, 0), (2, 30)]) h3 (fun k y _ _ => Iff.rfl)
  refine cn_c30_y (j := 1) hq h3 (by omega) (by omega) (cn_o12 (by omega) rfl (by omega)) (fun u4 h4 => ?_)
  replace h4 := cn_norm (B' := cn_BB l0 h0 1 e (e + 1) 30 60 60) (x0 := true) (x1 := true) (x2 := true) (y0 := [(0, x)]) (y1 := [(1, e)]) (y2 := [(1, 0)]) h4 (fun k y _ _ => by
    show cn_Bc (cn_z q 2) [(2, 30)] (cn_Bc (cn_z q 1) [(2, 31)] _) k y ↔ _
    rw [cn_Bc1, cn_Bc1, t1, t2]
    unfold cn_BB
    omega)
  refine cn_c30_x h4 ⟨4, ?_⟩
  refine cn_c85_n h4 (by omega) rfl ?_
  refine cn_85v0 (g := e) hq h4 (by omega) rfl rfl (by omega) (by omega) (by omega) (cn_hc3 rfl) (fun u6 h6 => ?_)
  refine cn_85v0 (g := 0) hq h6 (by omega) rfl rfl (by omega) (by omega) (by omega) (cn_hc3 rfl) (fun u7 h7 => ?_)
  replace h7 := cn_norm (x0 := true) (x1 := false) (x2 := false) (y0 := [(0, x)]) (y1 := [(1, e)]) (y2 := [(1, 0)]) h7 (fun k y _ _ => Iff.rfl)
  exact cn_c85_x h7 (fun post u h K => ⟨4, cn_rt_y h (by omega) rfl (cn_rtv0 (g := e) hq h (by omega) rfl rfl (by omega) (by omega) (by omega) (cn_hc3 rfl) (fun u' h' => cn_rtv0 (g := 0) hq h' (by omega) rfl rfl (by omega) (by omega) (by omega) (cn_hc3 rfl) (fun u' h' => cn_rt_x h' (K u' h'))))⟩) (fun u' h' => K _ u' h')
theorem cn_Tx2N {post : Int32 → St2 → Prop} {u : St2} {q : cn_Q} {p e l0 h0 x y : Nat} {A : Nat → Int32} {x0 : Int32} (hq : cn_ok q) (hp : p ≤ 29) (h : cn_I q 3 3 p cn_C1 (cn_BB l0 h0 1 e (e + 0) 31 60 60) (cn_3 false true true true) (cn_3 [] [(0, x)] [(0, y)] [(1, 0), (2, 30)]) A u)
    (K : ∀ A' u', cn_I q 3 3 p cn_C2 (cn_BB l0 h0 1 e (e + 0) 30 60 60) (cn_3 false true true false) (cn_3 [] [(0, x)] [(0, y)] [(1, 0)]) A' u' → post (nI 1) u') (e0 : x0 = nI 2 := by rfl) : wpX_cancel post u x0 := by
  have t2 : cn_t 2 (cn_z q 2) = 1 := cn_t9 (by omega) (cn_z9 hq 2).1 (cn_z9 hq 2).2
  refine cn_cancel h (by omega) rfl (fun u1 h1 => ⟨4, ?_⟩) e0
  refine cn_c30_n hq h1 (by omega) (by omega) (cn_o1n (by omega)) (fun u2 h2 => ?_)
  refine cn_c30_n hq h2 (by omega) (by omega) (cn_o1n (by omega)) (fun u3 h3 => ?_)
  refine cn_c30_y (j := 1) hq h3 (by omega) (by omega) (cn_o12 (by omega) rfl (by omega)) (fun u4 h4 => ?_)
  replace h4 := cn_norm (B' := cn_BB l0 h0 1 e (e + 0) 30 60 60) (x0 := true) (x1 := true) (x2 := true) (y0 := [(0, x)]) (y1 := [(0, y)]) (y2 := [(1, 0)]) h4 (fun k y _ _ => by
    show cn_Bc (cn_z q 2) [(2, 30)] _ k y ↔ _
    rw [cn_Bc1, t2]
    unfold cn_BB
    omega)
  refine cn_c30_x h4 ⟨4, ?_⟩
  refine cn_c85_n h4 (by omega) rfl (cn_c85_n h4 (by omega) rfl ?_)
  refine cn_85v0 (g := 0) hq h4 (by omega) rfl rfl (by omega) (by omega) (by omega) (cn_hc3 rfl) (fun u7 h7 => ?_)
  replace h7 := cn_norm (x0 := true) (x1 := true) (x2 := false) (y0 := [(0, x)]) (y1 := [(0, y)]) (y2 := [(1, 0)]) h7 (fun k y _ _ => Iff.rfl)
  exact cn_c85_x h7 (fun post u h K => ⟨4, cn_rt_y h (by omega) rfl (cn_rt_y h (by omega) rfl (cn_rtv0 (g := 0) hq h (by omega) rfl rfl (by omega) (by omega) (by omega) (cn_hc3 rfl) (fun u' h' => cn_rt_x h' (K u' h'))))⟩) (fun u' h' => K _ u' h')
end
section
theorem cn_B3 {l0 h0 z1 l1 h1 h2 h4 : Nat} : ∀ k y, k < 5 → y < 101 → (cn_B1 (cn_BB l0 h0 z1 l1 h1 h2 60 h4) 3 60 1 k y ↔ cn_BB l0 h0 z1 l1 h1 h2 61 h4 k y) := by
  intro k y _ _
  unfold cn_B1 cn_BB
  omega
theorem cn_B4 {l0 h0 z1 l1 h1 h2 h3 h4 : Nat} (h : 60 ≤ h4) : ∀ k y, k < 5 → y < 101 → (cn_B1 (cn_BB l0 h0 z1 l1 h1 h2 h3 h4) 4 h4 1 k y ↔ cn_BB l0 h0 z1 l1 h1 h2 h3 (h4 + 1) k y) := by
  intro k y _ _
  unfold cn_B1 cn_BB
  omega
/-- contact 3: the first bundle that waits takes it -/
theorem cn_Tc3F {post : Int32 → St2 → Prop} {u : St2} {q : cn_Q} {p e l0 h0 l1 h1 : Nat} {A : Nat → Int32} {x0 x1 x2 : Int32} (hq : cn_ok q) (he : e = max p 1) (hp : p ≤ 29) (h : cn_I q 3 3 p cn_C2 (cn_BB l0 h0 1 l1 h1 30 60 60) (cn_3 false false false false) (cn_3 [] [(1, e)] [(1, e + 1)] [(1, 0)]) A u)
    (K : ∀ u', cn_I q 4 3 p cn_C2 (cn_BB l0 h0 1 l1 h1 30 61 60) (cn_3 false true false false) (cn_3 [] [(1, e), (3, 60)] [(1, e + 1)] [(1, 0)]) A u' → post (nI 3) u') (e0 : x0 = nI (6 * cn_v q + cn_b q)) (e1 : x1 = nI 6121) (e2 : x2 = nI 90) : wpX_contact post u x0 x1 x2 := by
  refine cn_contact hq h (by omega) (fun post u h K => ⟨4, ?_⟩) K e0 e1 e2
  refine cn_rtv1 (k := 3) (g := e) (y := 60) hq h (by omega) rfl rfl (by omega) (by omega) rfl (by omega) (cn_hc3 rfl) rfl (fun z hz => cn_g3 hz (by omega)) (by omega) (fun u2 h2 => ?_)
  replace h2 := cn_norm (x0 := true) (x1 := false) (x2 := false) (y0 := [(1, e), (3, 60)]) (y1 := [(1, e + 1)]) (y2 := [(1, 0)]) h2 cn_B3
  exact cn_rtv0 (g := e + 1) hq h2 (by omega) rfl rfl (by omega) (by omega) (by omega) (cn_hc4 rfl) (fun u' h' => cn_rtv0 (g := 0) hq h' (by omega) rfl rfl (by omega) (by omega) (by omega) (cn_hc4 rfl) (fun u' h' => cn_rt_x h' (K u' h')))
theorem cn_Tc3S {post : Int32 → St2 → Prop} {u : St2} {q : cn_Q} {p e x l0 h0 l1 h1 : Nat} {A : Nat → Int32} {x0 x1 x2 : Int32} (hq : cn_ok q) (he : e = max p 1) (hp : p ≤ 29) (h : cn_I q 3 3 p cn_C2 (cn_BB l0 h0 1 l1 h1 30 60 60) (cn_3 false true false false) (cn_3 [] [(0, x)] [(1, e)] [(1, 0)]) A u)
    (K : ∀ u', cn_I q 4 3 p cn_C2 (cn_BB l0 h0 1 l1 h1 30 61 60) (cn_3 false true true false) (cn_3 [] [(0, x)] [(1, e), (3, 60)] [(1, 0)]) A u' → post (nI 3) u') (e0 : x0 = nI (6 * cn_v q + cn_b q)) (e1 : x1 = nI 6121) (e2 : x2 = nI 90) : wpX_contact post u x0 x1 x2 := by
  refine cn_contact hq h (by omega) (fun post u h K => ⟨4, cn_rt_y h (by omega) rfl ?_⟩) K e0 e1 e2
  refine cn_rtv1 (k := 3) (g := e) (y := 60) hq h (by omega) rfl rfl (by omega) (by omega) rfl (by omega) (cn_hc3 rfl) rfl (fun z hz => cn_g3 hz (by omega)) (by omega) (fun u2 h2 => ?_)
  replace h2 := cn_norm (x0 := true) (x1 := true) (x2 := false) (y0 := [(0, x)]) (y1 := [(1, e), (3, 60)]) (y2 := [(1, 0)]) h2 cn_B3
  exact cn_rtv0 (g := 0) hq h2 (by omega) rfl rfl (by omega) (by omega) (by omega) (cn_hc4 rfl) (fun u' h' => cn_rt_x h' (K u' h'))
theorem cn_Tc3N {post : Int32 → St2 → Prop} {u : St2} {q : cn_Q} {p x y l0 h0 l1 h1 : Nat} {A : Nat → Int32} {x0 x1 x2 : Int32} (hq : cn_ok q) (hp : p ≤ 29) (h : cn_I q 3 3 p cn_C2 (cn_BB l0 h0 1 l1 h1 30 60 60) (cn_3 false true true false) (cn_3 [] [(0, x)] [(0, y)] [(1, 0)]) A u)
    (K : ∀ u', cn_I q 4 3 p cn_C2 (cn_BB l0 h0 1 l1 h1 30 61 60) (cn_3 false true true true) (cn_3 [] [(0, x)] [(0, y)] [(1, 0), (3, 60)]) A u' → post (nI 3) u') (e0 : x0 = nI (6 * cn_v q + cn_b q)) (e1 : x1 = nI 6121) (e2 : x2 = nI 90) : wpX_contact post u x0 x1 x2 := by
  refine cn_contact hq h (by omega) (fun post u h K => ⟨4, cn_rt_y h (by omega) rfl (cn_rt_y h (by omega) rfl ?_)⟩) K e0 e1 e2
  refine cn_rtv1 (k := 3) (g := 0) (y := 60) hq h (by omega) rfl rfl (by omega) (by omega) rfl (by omega) (cn_hc3 rfl) rfl (fun z hz => cn_g3 hz (by omega)) (by omega) (fun u2 h2 => ?_)
  replace h2 := cn_norm (x0 := true) (x1 := true) (x2 := true) (y0 := [(0, x)]) (y1 := [(0, y)]) (y2 := [(1, 0), (3, 60)]) h2 cn_B3
  exact cn_rt_x h2 (K u2 h2)
/-- contact 4: the others take it -/
theorem cn_Tc4F {post : Int32 → St2 → Prop} {u : St2} {q : cn_Q} {p e l0 h0 l1 h1 : Nat} {A : Nat → Int32} {x0 x1 x2 : Int32} (hq : cn_ok q) (he : e = max p 1) (hp : p ≤ 29) (h : cn_I q 4 3 p cn_C2 (cn_BB l0 h0 1 l1 h1 30 61 60) (cn_3 false true false false) (cn_3 [] [(1, e), (3, 60)] [(1, e + 1)] [(1, 0)]) A u)
    (K : ∀ u', cn_I q 5 3 p cn_C2 (cn_BB l0 h0 1 l1 h1 30 61 62) (cn_3 false true true true) (cn_3 [] [(1, e), (3, 60)] [(1, e + 1), (4, 60)] [(1, 0), (4, 61)]) A u' → post (nI 4) u') (e0 : x0 = nI (6 * cn_v q + cn_b q)) (e1 : x1 = nI 6159) (e2 : x2 = nI 91) : wpX_contact post u x0 x1 x2 := by
  refine cn_contact hq h (by omega) (fun post u h K => ⟨4, cn_rt_y h (by omega) rfl ?_⟩) K e0 e1 e2
  refine cn_rtv1 (k := 4) (g := e + 1) (y := 60) hq h (by omega) rfl rfl (by omega) (by omega) rfl (by omega) (cn_hc4 rfl) rfl (fun z hz => cn_g4 hz (by omega) (by omega) (by omega)) (by omega) (fun u2 h2 => ?_)
  replace h2 := cn_norm (x0 := true) (x1 := true) (x2 := false) (y0 := [(1, e), (3, 60)]) (y1 := [(1, e + 1), (4, 60)]) (y2 := [(1, 0)]) h2 (cn_B4 (by omega))
  refine cn_rtv1 (k := 4) (g := 0) (y := 61) hq h2 (by omega) rfl rfl (by omega) (by omega) rfl (by omega) (cn_hc4 rfl) rfl (fun z hz => cn_g4 hz (by omega) (by omega) (by omega)) (by omega) (fun u3 h3 => ?_)
  replace h3 := cn_norm (x0 := true) (x1 := true) (x2 := true) (y0 := [(1, e), (3, 60)]) (y1 := [(1, e + 1), (4, 60)]) (y2 := [(1, 0), (4, 61)]) h3 (cn_B4 (by omega))
  exact cn_rt_x h3 (K u3 h3)
theorem cn_Tc4S {post : Int32 → St2 → Prop} {u : St2} {q : cn_Q} {p e x l0 h0 l1 h1 : Nat} {A : Nat → Int32} {x0 x1 x2 : Int32} (hq : cn_ok q) (hp : p ≤ 29) (h : cn_I q 4 3 p cn_C2 (cn_BB l0 h0 1 l1 h1 30 61 60) (cn_3 false true true false) (cn_3 [] [(0, x)] [(1, e), (3, 60)] [(1, 0)]) A u)
    (K : ∀ u', cn_I q 5 3 p cn_C2 (cn_BB l0 h0 1 l1 h1 30 61 61) (cn_3 false true true true) (cn_3 [] [(0, x)] [(1, e), (3, 60)] [(1, 0), (4, 60)]) A u' → post (nI 4) u') (e0 : x0 = nI (6 * cn_v q + cn_b q)) (e1 : x1 = nI 6159) (e2 : x2 = nI 91) : wpX_contact post u x0 x1 x2 := by
  refine cn_contact hq h (by omega) (fun post u h K => ⟨4, cn_rt_y h (by omega) rfl (cn_rt_y h (by omega) rfl ?_)⟩) K e0 e1 e2
  refine cn_rtv1 (k := 4) (g := 0) (y := 60) hq h (by omega) rfl rfl (by omega) (by omega) rfl (by omega) (cn_hc4 rfl) rfl (fun z hz => cn_g4 hz (by omega) (by omega) (by omega)) (by omega) (fun u3 h3 => ?_)
  replace h3 := cn_norm (x0 := true) (x1 := true) (x2 := true) (y0 := [(0, x)]) (y1 := [(1, e), (3, 60)]) (y2 := [(1, 0), (4, 60)]) h3 (cn_B4 (by omega))
  exact cn_rt_x h3 (K u3 h3)
theorem cn_Tc4N {post : Int32 → St2 → Prop} {u : St2} {q : cn_Q} {p : Nat} {B : Nat → Nat → Prop} {R : Nat → Bool} {H : Nat → List (Nat × Nat)} {A : Nat → Int32} {x0 x1 x2 : Int32} (hq : cn_ok q) (h0 : R 0 = true) (h1 : R 1 = true) (h2 : R 2 = true) (h : cn_I q 4 3 p cn_C2 B R H A u)
    (K : ∀ u', cn_I q 5 3 p cn_C2 B R H A u' → post (nI 4) u') (e0 : x0 = nI (6 * cn_v q + cn_b q)) (e1 : x1 = nI 6159) (e2 : x2 = nI 91) : wpX_contact post u x0 x1 x2 :=
  cn_contact hq h (by omega) (cn_RTt h0 h1 h2) K e0 e1 e2
/-- cancel(4): in case F bundle 2 loses its booking -/
theorem cn_Tx4F {post : Int32 → St2 → Prop} {u : St2} {q : cn_Q} {e : Nat} {B : Nat → Nat → Prop} {A : Nat → Int32} {x0 : Int32} (hq : cn_ok q) (h : cn_I q 5 3 61 cn_C3 B (cn_3 false true true true) (cn_3 [] [(1, e), (3, 60)] [(1, e + 1), (4, 60)] [(1, 0), (4, 61)]) A u)
    (K : ∀ B' A' u', cn_I q 5 3 61 cn_C4 B' (cn_3 false true true false) (cn_3 [] [(1, e), (3, 60)] [(1, e + 1), (4, 60)] [(1, 0)]) A' u' → post (nI 1) u') (e0 : x0 = nI 4 := by rfl) : wpX_cancel post u x0 := by
  have t1 : cn_t 4 (cn_z q 1) = 1 := cn_t9 (by omega) (cn_z9 hq 1).1 (cn_z9 hq 1).2
  have t2 : cn_t 4 (cn_z q 2) = 1 := cn_t9 (by omega) (cn_z9 hq 2).1 (cn_z9 hq 2).2
  refine cn_cancel h (by omega) rfl (fun u1 h1 => ⟨4, ?_⟩) e0
  refine cn_c30_n hq h1 (by omega) (by omega) (cn_o2n (by omega) (by omega)) (fun u2 h2 => ?_)
  refine cn_c30_n hq h2 (by omega) (by omega) (cn_o2n (by omega) (Or.inr (by rw [t1]; omega))) (fun u3 h3 => ?_)
  refine cn_c30_y (j := 1) hq h3 (by omega) (by omega) (cn_o12 (by omega) rfl (show 61 < 61 + cn_t 4 (cn_z q 2) by omega)) (fun u4 h4 => ?_)
  replace h4 := cn_norm (x0 := true) (x1 := true) (x2 := true) (y0 := [(1, e), (3, 60)]) (y1 := [(1, e + 1), (4, 60)]) (y2 := [(1, 0)]) h4 (fun k y _ _ => Iff.rfl)
  refine cn_c30_x h4 ⟨4, ?_⟩
  refine cn_c85_n h4 (by omega) rfl (cn_c85_n h4 (by omega) rfl ?_)
  refine cn_85v0 (g := 0) hq h4 (by omega) rfl rfl (by omega) (by omega) (by omega) (cn_hc5 rfl rfl rfl) (fun u7 h7 => ?_)
  replace h7 := cn_norm (x0 := true) (x1 := true) (x2 := false) (y0 := [(1, e), (3, 60)]) (y1 := [(1, e + 1), (4, 60)]) (y2 := [(1, 0)]) h7 (fun k y _ _ => Iff.rfl)
  exact cn_c85_x h7 (fun post u h K => ⟨4, cn_rt_y h (by omega) rfl (cn_rt_y h (by omega) rfl (cn_rtv0 (g := 0) hq h (by omega) rfl rfl (by omega) (by omega) (by omega) (cn_hc5 rfl rfl rfl) (fun u' h' => cn_rt_x h' (K u' h'))))⟩) (fun u' h' => K _ _ u' h')
end
section
theorem cn_pl1n {q : cn_Q} {T z e k g : Nat} (h : g + cn_t k z + cn_D k ≤ T) : cn_pl q T z e [(k, g)] = e := if_neg (by show ¬ T < g + cn_t k z + cn_D k; omega)
theorem cn_pl2n {q : cn_Q} {T z e k g k2 g2 : Nat} (h : g + cn_t k z + cn_D k ≤ T) (h2 : g2 + cn_t k2 z + cn_D k2 ≤ T) : cn_pl q T z e [(k, g), (k2, g2)] = e :=
  Eq.trans (if_neg (by show ¬ T < g + cn_t k z + cn_D k; omega)) (cn_pl1n h2)
theorem cn_plw {q : cn_Q} {T z e k g : Nat} {l : List (Nat × Nat)} (h : T < g + cn_t k z + cn_D k) (h2 : T ≤ g) : cn_pl q T z e ((k, g) :: l) = cn_fr q k :=
  Eq.trans (if_pos h) (if_neg (by show ¬ g < T; omega))
theorem cn_tz {q : cn_Q} (hq : cn_ok q) (k i : Nat) (hk : k ≠ 0) : cn_t k (cn_z q i) = 1 := cn_t9 hk (cn_z9 hq i).1 (cn_z9 hq i).2
theorem cn_e6v (x y : Nat) : (6 * nI x) + nI y = nI (6 * x + y) := by
  rw [show (6 : Int32) = nI 6 from rfl, pk_mul, nI_add]
/-- the end of the law, behind the second loop -/
theorem cn_TailF {post : Int32 → St0 → Prop} {mc ms kc ks : Nat} {fc fb fn fr : Int32} {a1 a2 a3 a4 a5 a6 a7 a8 a9 a10 a11 a12 a13 a14 a15 a16 a17 a18 a19 a20 a21 : Nat → Int32} {q : cn_Q} {p e f : Nat} {B : Nat → Nat → Prop} {A : Nat → Int32} {x18 : Int32} (hq : cn_ok q) (he : e = max p 1) (hp : p ≤ 29) (h : cn_I q 5 3 p cn_C2 B (cn_3 false true true true) (cn_3 [] [(1, e), (3, 60)] [(1, e + 1), (4, 60)] [(1, 0), (4, 61)]) A (fc, fb, fn, fr, a1, a2, a3, a4, a5, a6, a7, a8, a9, a10, a11, a12, a13, a14, a15, a16, a17, a18, a19, a20, a21)) (P : post 1 ()) : wL_lawOf_1015 post mc ms (nI (cn_b q)) (nI (cn_v q)) (nI (6 * cn_a q + cn_b q)) (nI p) (nI 0) 1 kc ks fc fb fn fr a1 a2 a3 a4 a5 a6 a7 a8 a9 a10 a11 a12 a13 a14 a15 a16 a17 a18 a19 a20 a21 (f + 1) x18 (nI 3) := by
  have t10 := cn_tz hq 1 0 (by omega)
  have t30 := cn_tz hq 3 0 (by omega)
  have t41 := cn_tz hq 4 1 (by omega)
  have t12 := cn_tz hq 1 2 (by omega)
  have d1 : cn_D 1 = 0 := rfl
  have d3 : cn_D 3 = 0 := rfl
  have d4 : cn_D 4 = 1 := rfl
  refine pk_le 3 3 (fun _ => br_f (by decide) ?_) (fun z => absurd z (by omega))
  refine cn_cbad hq (br_t rfl ?_) rfl
  refine cn_pass (x := 61 - p) h (by omega) (by omega) (fun u1 h1 => ?_) (pk_sub (a := 61) (by omega))
  rw [show p + (61 - p) = 61 by omega] at h1 ⊢
  obtain ⟨fc, fb, fn, fr, a1, a2, a3, a4, a5, a6, a7, a8, a9, a10, a11, a12, a13, a14, a15, a16, a17, a18, a19, a20, a21⟩ := u1
  refine br_t rfl ?_
  refine cn_st (i := 0) (k := 3) (g := 60) hq h1 (by omega) rfl rfl (fun z => absurd z (by omega)) (fun _ => br_t rfl ?_)
  refine cn_place (i := 0) hq h1 (by omega) (br_t ?_ ?_)
  · show nI (cn_pl q 61 (cn_z q 0) (cn_b q) [(1, e), (3, 60)]) = nI (cn_b q)
    rw [cn_pl2n (by omega) (by omega)]
  refine cn_can0 (k := 3) hq h1 (by omega) rfl rfl rfl rfl (cn_o2n (by omega) (Or.inr (show 60 + cn_t 3 (cn_z q 0) ≤ 61 by omega))) (cn_o2n (by omega) (by omega)) (cn_o2n (by omega) (by omega)) (fun A2 u2 h2 => ?_)
  obtain ⟨fc, fb, fn, fr, a1, a2, a3, a4, a5, a6, a7, a8, a9, a10, a11, a12, a13, a14, a15, a16, a17, a18, a19, a20, a21⟩ := u2
  refine br_t rfl ?_
  refine cn_st (i := 0) (k := 3) (g := 60) hq h2 (by omega) rfl rfl (fun z => absurd z (by omega)) (fun _ => br_t rfl ?_)
  refine cn_Tx4F hq h2 (fun B3 A3 u3 h3 => ?_)
  obtain ⟨fc, fb, fn, fr, a1, a2, a3, a4, a5, a6, a7, a8, a9, a10, a11, a12, a13, a14, a15, a16, a17, a18, a19, a20, a21⟩ := u3
  refine pk_le 1 0 (fun z => absurd z (by omega)) (fun _ => br_t rfl ?_)
  refine cn_pass (x := 200) h3 (by omega) (by omega) (fun u4 h4 => ?_)
  obtain ⟨fc, fb, fn, fr, a1, a2, a3, a4, a5, a6, a7, a8, a9, a10, a11, a12, a13, a14, a15, a16, a17, a18, a19, a20, a21⟩ := u4
  refine br_t rfl (br_t rfl ?_)
  refine cn_st0 (i := 2) h4 (by omega) rfl (br_t rfl ?_)
  refine cn_place (i := 2) hq h4 (by omega) (br_t ?_ ?_)
  · show nI (cn_pl q 261 (cn_z q 2) (cn_v q) [(1, 0)]) = nI (cn_v q)
    rw [cn_pl1n (by omega)]
  unfold wL_lawOf_1211
  exact cn_st (i := 1) (k := 4) (g := 60) hq h4 (by omega) rfl rfl (fun z => absurd z (show ¬ 61 + 200 < 60 + cn_t 4 (cn_z q 1) + cn_D 4 by omega)) (fun _ => br_t rfl P)
theorem cn_TailS {post : Int32 → St0 → Prop} {mc ms kc ks : Nat} {fc fb fn fr : Int32} {a1 a2 a3 a4 a5 a6 a7 a8 a9 a10 a11 a12 a13 a14 a15 a16 a17 a18 a19 a20 a21 : Nat → Int32} {q : cn_Q} {p e x f : Nat} {B : Nat → Nat → Prop} {A : Nat → Int32} {x18 : Int32} (hq : cn_ok q) (he : e = max p 1) (hp : p ≤ 29) (h : cn_I q 5 3 p cn_C2 B (cn_3 false true true true) (cn_3 [] [(0, x)] [(1, e), (3, 60)] [(1, 0), (4, 60)]) A (fc, fb, fn, fr, a1, a2, a3, a4, a5, a6, a7, a8, a9, a10, a11, a12, a13, a14, a15, a16, a17, a18, a19, a20, a21)) (P : post 1 ()) : wL_lawOf_1015 post mc ms (nI (cn_b q)) (nI (cn_v q)) (nI (6 * cn_a q + cn_b q)) (nI p) (nI 1) 1 kc ks fc fb fn fr a1 a2 a3 a4 a5 a6 a7 a8 a9 a10 a11 a12 a13 a14 a15 a16 a17 a18 a19 a20 a21 (f + 1) x18 (nI 3) := by
  have t11 := cn_tz hq 1 1 (by omega)
  have t31 := cn_tz hq 3 1 (by omega)
  have t42 := cn_tz hq 4 2 (by omega)
  have d1 : cn_D 1 = 0 := rfl
  have d3 : cn_D 3 = 0 := rfl
  have d4 : cn_D 4 = 1 := rfl
  refine pk_le 3 3 (fun _ => br_f (by decide) ?_) (fun z => absurd z (by omega))
  refine cn_cbad hq (br_t rfl ?_) rfl
  refine cn_pass (x := 61 - p) h (by omega) (by omega) (fun u1 h1 => ?_) (pk_sub (a := 61) (by omega))
  rw [show p + (61 - p) = 61 by omega] at h1 ⊢
  obtain ⟨fc, fb, fn, fr, a1, a2, a3, a4, a5, a6, a7, a8, a9, a10, a11, a12, a13, a14, a15, a16, a17, a18, a19, a20, a21⟩ := u1
  refine br_t rfl ?_
  refine cn_st (i := 1) (k := 3) (g := 60) hq h1 (by omega) rfl rfl (fun z => absurd z (by omega)) (fun _ => br_t rfl ?_)
  refine cn_place (i := 1) hq h1 (by omega) (br_t ?_ ?_)
  · show nI (cn_pl q 61 (cn_z q 1) (cn_b q) [(1, e), (3, 60)]) = nI (cn_b q)
    rw [cn_pl2n (by omega) (by omega)]
  refine cn_can0 (k := 3) hq h1 (by omega) rfl rfl rfl rfl (cn_o1n (by omega)) (cn_o2n (by omega) (Or.inr (show 60 + cn_t 3 (cn_z q 1) ≤ 61 by omega))) (cn_o2n (by omega) (by omega)) (fun A2 u2 h2 => ?_)
  obtain ⟨fc, fb, fn, fr, a1, a2, a3, a4, a5, a6, a7, a8, a9, a10, a11, a12, a13, a14, a15, a16, a17, a18, a19, a20, a21⟩ := u2
  refine br_t rfl ?_
  refine cn_st (i := 1) (k := 3) (g := 60) hq h2 (by omega) rfl rfl (fun z => absurd z (by omega)) (fun _ => br_t rfl ?_)
  refine cn_can0 (k := 4) hq h2 (by omega) rfl rfl rfl rfl (cn_o1n (by omega)) (cn_o2n (by omega) (by omega)) (cn_o2n (by omega) (Or.inr (show 60 + cn_t 4 (cn_z q 2) ≤ 61 by omega))) (fun A3 u3 h3 => ?_)
  obtain ⟨fc, fb, fn, fr, a1, a2, a3, a4, a5, a6, a7, a8, a9, a10, a11, a12, a13, a14, a15, a16, a17, a18, a19, a20, a21⟩ := u3
  refine pk_le 1 1 (fun _ => br_t rfl ?_) (fun z => absurd z (by omega))
  refine cn_pass (x := 200) h3 (by omega) (by omega) (fun u4 h4 => ?_)
  obtain ⟨fc, fb, fn, fr, a1, a2, a3, a4, a5, a6, a7, a8, a9, a10, a11, a12, a13, a14, a15, a16, a17, a18, a19, a20, a21⟩ := u4
  refine br_t rfl (br_f (by decide) ?_)
  refine cn_st (i := 2) (k := 4) (g := 60) hq h4 (by omega) rfl rfl (fun z => absurd z (show ¬ 61 + 200 < 60 + cn_t 4 (cn_z q 2) + cn_D 4 by omega)) (fun _ => br_t rfl ?_)
  unfold wL_lawOf_1211
  exact cn_st (i := 1) (k := 3) (g := 60) hq h4 (by omega) rfl rfl (fun z => absurd z (show ¬ 61 + 200 < 60 + cn_t 3 (cn_z q 1) + cn_D 3 by omega)) (fun _ => br_t rfl P)
theorem cn_TailN {post : Int32 → St0 → Prop} {mc ms kc ks : Nat} {fc fb fn fr : Int32} {a1 a2 a3 a4 a5 a6 a7 a8 a9 a10 a11 a12 a13 a14 a15 a16 a17 a18 a19 a20 a21 : Nat → Int32} {q : cn_Q} {p x y f : Nat} {B : Nat → Nat → Prop} {A : Nat → Int32} {x18 : Int32} (hq : cn_ok q) (hp : p ≤ 29) (hy : y ≤ 100) (h : cn_I q 5 3 p cn_C2 B (cn_3 false true true true) (cn_3 [] [(0, x)] [(0, y)] [(1, 0), (3, 60)]) A (fc, fb, fn, fr, a1, a2, a3, a4, a5, a6, a7, a8, a9, a10, a11, a12, a13, a14, a15, a16, a17, a18, a19, a20, a21)) (P : post 1 ()) : wL_lawOf_1015 post mc ms (nI (cn_b q)) (nI (cn_v q)) (nI (6 * cn_a q + cn_b q)) (nI p) (nI 2) 1 kc ks fc fb fn fr a1 a2 a3 a4 a5 a6 a7 a8 a9 a10 a11 a12 a13 a14 a15 a16 a17 a18 a19 a20 a21 (f + 1) x18 (nI 3) := by
  have t12 := cn_tz hq 1 2 (by omega)
  have t32 := cn_tz hq 3 2 (by omega)
  have t01 : cn_t 0 (cn_z q 1) = cn_z q 1 := cn_t0
  have z1 := cn_z9 hq 1
  have d0 : cn_D 0 = 0 := rfl
  have d1 : cn_D 1 = 0 := rfl
  have d3 : cn_D 3 = 0 := rfl
  refine pk_le 3 3 (fun _ => br_f (by decide) ?_) (fun z => absurd z (by omega))
  refine cn_cbad hq (br_t rfl ?_) rfl
  refine cn_pass (x := 61 - p) h (by omega) (by omega) (fun u1 h1 => ?_) (pk_sub (a := 61) (by omega))
  rw [show p + (61 - p) = 61 by omega] at h1 ⊢
  obtain ⟨fc, fb, fn, fr, a1, a2, a3, a4, a5, a6, a7, a8, a9, a10, a11, a12, a13, a14, a15, a16, a17, a18, a19, a20, a21⟩ := u1
  refine br_t rfl ?_
  refine cn_st (i := 2) (k := 3) (g := 60) hq h1 (by omega) rfl rfl (fun z => absurd z (by omega)) (fun _ => br_t rfl ?_)
  refine cn_place (i := 2) hq h1 (by omega) (br_t ?_ ?_)
  · show nI (cn_pl q 61 (cn_z q 2) (cn_b q) [(1, 0), (3, 60)]) = nI (cn_b q)
    rw [cn_pl2n (by omega) (by omega)]
  refine cn_can0 (k := 3) hq h1 (by omega) rfl rfl rfl rfl (cn_o1n (by omega)) (cn_o1n (by omega)) (cn_o2n (by omega) (Or.inr (show 60 + cn_t 3 (cn_z q 2) ≤ 61 by omega))) (fun A2 u2 h2 => ?_)
  obtain ⟨fc, fb, fn, fr, a1, a2, a3, a4, a5, a6, a7, a8, a9, a10, a11, a12, a13, a14, a15, a16, a17, a18, a19, a20, a21⟩ := u2
  refine br_t rfl ?_
  refine cn_st (i := 2) (k := 3) (g := 60) hq h2 (by omega) rfl rfl (fun z => absurd z (by omega)) (fun _ => br_t rfl ?_)
  refine cn_can0 (k := 4) hq h2 (by omega) rfl rfl rfl rfl (cn_o1n (by omega)) (cn_o1n (by omega)) (cn_o2n (by omega) (by omega)) (fun A3 u3 h3 => ?_)
  obtain ⟨fc, fb, fn, fr, a1, a2, a3, a4, a5, a6, a7, a8, a9, a10, a11, a12, a13, a14, a15, a16, a17, a18, a19, a20, a21⟩ := u3
  refine pk_le 1 2 (fun _ => br_t rfl ?_) (fun z => absurd z (by omega))
  refine cn_pass (x := 200) h3 (by omega) (by omega) (fun u4 h4 => ?_)
  obtain ⟨fc, fb, fn, fr, a1, a2, a3, a4, a5, a6, a7, a8, a9, a10, a11, a12, a13, a14, a15, a16, a17, a18, a19, a20, a21⟩ := u4
  refine br_t rfl (br_f (by decide) ?_)
  refine cn_st (i := 2) (k := 3) (g := 60) hq h4 (by omega) rfl rfl (fun z => absurd z (show ¬ 61 + 200 < 60 + cn_t 3 (cn_z q 2) + cn_D 3 by omega)) (fun _ => br_t rfl ?_)
  unfold wL_lawOf_1211
  exact cn_st (i := 1) (k := 0) (g := y) hq h4 (by omega) rfl rfl (fun z => absurd z (show ¬ 61 + 200 < y + cn_t 0 (cn_z q 1) + cn_D 0 by omega)) (fun _ => br_t rfl P)
/-- contact 3 is booked at one tick -/
theorem cn_bk3 {post : Int32 → Prop} {u : St2} {q : cn_Q} {n m T : Nat} {R : Nat → Bool} {H : Nat → List (Nat × Nat)} {A : Nat → Int32} {l0 h0 z1 l1 h1 h2 h4 : Nat} {x0 : Int32} (hI : cn_I q n m T cn_C2 (cn_BB l0 h0 z1 l1 h1 h2 61 h4) R H A u) (hn : 3 < n) (K : post (nI 1)) (e0 : x0 = nI 3 := by rfl) : wpX_booked post u x0 := by
  refine cn_bk (k := 3) (fun t => if 60 < t then 1 else 0) hI hn rfl rfl (fun t ht hb => ?_) (fun t ht hb => ?_) K e0
  · unfold cn_BB at hb
    have e : t = 60 := by omega
    subst e
    rfl
  · unfold cn_BB at hb
    show (if 60 < t + 1 then 1 else 0) = (if 60 < t then 1 else 0)
    have e : t ≠ 60 := by omega
    by_cases z : 60 < t
    · rw [if_pos z, if_pos (by omega)]
    · rw [if_neg z, if_neg (by omega)]
theorem cn_L908F {post : Int32 → St0 → Prop} {mc ms kc ks : Nat} {fc fb fn fr : Int32} {a1 a2 a3 a4 a5 a6 a7 a8 a9 a10 a11 a12 a13 a14 a15 a16 a17 a18 a19 a20 a21 : Nat → Int32} {q : cn_Q} {p e l0 h0 l1 h1 : Nat} {A : Nat → Int32} (hq : cn_ok q) (he : e = max p 1) (hp : p ≤ 29) (h : cn_I q 3 3 p cn_C2 (cn_BB l0 h0 1 l1 h1 30 60 60) (cn_3 false false false false) (cn_3 [] [(1, e)] [(1, e + 1)] [(1, 0)]) A (fc, fb, fn, fr, a1, a2, a3, a4, a5, a6, a7, a8, a9, a10, a11, a12, a13, a14, a15, a16, a17, a18, a19, a20, a21)) (P : post 1 ()) : wL_lawOf_908 post mc ms (nI (cn_b q)) (nI (cn_v q)) (nI (6 * cn_a q + cn_b q)) (nI p) 0 kc ks fc fb fn fr a1 a2 a3 a4 a5 a6 a7 a8 a9 a10 a11 a12 a13 a14 a15 a16 a17 a18 a19 a20 a21 := by
  have t30 := cn_tz hq 3 0 (by omega)
  have t41 := cn_tz hq 4 1 (by omega)
  have t42 := cn_tz hq 4 2 (by omega)
  have d3 : cn_D 3 = 0 := rfl
  have d4 : cn_D 4 = 1 := rfl
  unfold wL_lawOf_908
  refine cn_Tc3F hq he hp h (fun u1 h1 => ?_) (cn_e6v _ _) rfl rfl
  obtain ⟨fc, fb, fn, fr, a1, a2, a3, a4, a5, a6, a7, a8, a9, a10, a11, a12, a13, a14, a15, a16, a17, a18, a19, a20, a21⟩ := u1
  refine br_t rfl ?_
  refine cn_hopw (i := 0) (j := 1) (k := 3) (g := 60) h1 (by omega) rfl (br_t rfl ?_)
  refine cn_st (i := 0) (k := 3) (g := 60) hq h1 (by omega) rfl rfl (fun _ => br_t rfl ?_) (fun z => absurd z (by omega))
  refine cn_arr (i := 0) (k := 3) (g := 60) hq h1 (by omega) rfl rfl (br_t (by rw [t30]; rfl) ?_)
  refine cn_bk3 h1 (by omega) (br_t rfl ?_)
  refine cn_Tc4F hq he hp h1 (fun u2 h2 => ?_) (cn_e6v _ _) rfl rfl
  obtain ⟨fc, fb, fn, fr, a1, a2, a3, a4, a5, a6, a7, a8, a9, a10, a11, a12, a13, a14, a15, a16, a17, a18, a19, a20, a21⟩ := u2
  refine br_t rfl (nm_r (e' := nI 1) rfl ⟨3, ?_⟩)
  refine pk_le 3 1 (fun z => absurd z (by omega)) (fun _ => ?_)
  refine cn_hopw (i := 1) (j := 1) (k := 4) (g := 60) h2 (by omega) rfl (br_t rfl ?_)
  refine cn_st (i := 1) (k := 4) (g := 60) hq h2 (by omega) rfl rfl (fun _ => br_t rfl ?_) (fun z => absurd z (by omega))
  refine cn_arr (i := 1) (k := 4) (g := 60) hq h2 (by omega) rfl rfl (br_t (by rw [t41]; rfl) (nm_r (e' := nI 4061) rfl (nm_r (e' := nI 2) rfl ?_)))
  refine pk_le 3 2 (fun z => absurd z (by omega)) (fun _ => ?_)
  refine cn_hopw (i := 2) (j := 1) (k := 4) (g := 61) h2 (by omega) rfl (br_t rfl ?_)
  refine cn_st (i := 2) (k := 4) (g := 61) hq h2 (by omega) rfl rfl (fun _ => br_t rfl ?_) (fun z => absurd z (by omega))
  refine cn_arr (i := 2) (k := 4) (g := 61) hq h2 (by omega) rfl rfl (br_t (by rw [t42]; rfl) (nm_e (nm_r (e' := nI 3) rfl ?_)))
  exact cn_TailF hq he hp h2 P
theorem cn_L908S {post : Int32 → St0 → Prop} {mc ms kc ks : Nat} {fc fb fn fr : Int32} {a1 a2 a3 a4 a5 a6 a7 a8 a9 a10 a11 a12 a13 a14 a15 a16 a17 a18 a19 a20 a21 : Nat → Int32} {q : cn_Q} {p e x l0 h0 l1 h1 : Nat} {A : Nat → Int32} (hq : cn_ok q) (he : e = max p 1) (hp : p ≤ 29) (h : cn_I q 3 3 p cn_C2 (cn_BB l0 h0 1 l1 h1 30 60 60) (cn_3 false true false false) (cn_3 [] [(0, x)] [(1, e)] [(1, 0)]) A (fc, fb, fn, fr, a1, a2, a3, a4, a5, a6, a7, a8, a9, a10, a11, a12, a13, a14, a15, a16, a17, a18, a19, a20, a21)) (P : post 1 ()) : wL_lawOf_908 post mc ms (nI (cn_b q)) (nI (cn_v q)) (nI (6 * cn_a q + cn_b q)) (nI p) 1 kc ks fc fb fn fr a1 a2 a3 a4 a5 a6 a7 a8 a9 a10 a11 a12 a13 a14 a15 a16 a17 a18 a19 a20 a21 := by
  have t31 := cn_tz hq 3 1 (by omega)
  have t42 := cn_tz hq 4 2 (by omega)
  have d3 : cn_D 3 = 0 := rfl
  have d4 : cn_D 4 = 1 := rfl
  unfold wL_lawOf_908
  refine cn_Tc3S hq he hp h (fun u1 h1 => ?_) (cn_e6v _ _) rfl rfl
  obtain ⟨fc, fb, fn, fr, a1, a2, a3, a4, a5, a6, a7, a8, a9, a10, a11, a12, a13, a14, a15, a16, a17, a18, a19, a20, a21⟩ := u1
  refine br_t rfl ?_
  refine cn_hopw (i := 1) (j := 1) (k := 3) (g := 60) h1 (by omega) rfl (br_t rfl ?_)
  refine cn_st (i := 1) (k := 3) (g := 60) hq h1 (by omega) rfl rfl (fun _ => br_t rfl ?_) (fun z => absurd z (by omega))
  refine cn_arr (i := 1) (k := 3) (g := 60) hq h1 (by omega) rfl rfl (br_t (by rw [t31]; rfl) ?_)
  refine cn_bk3 h1 (by omega) (br_t rfl ?_)
  refine cn_Tc4S hq hp h1 (fun u2 h2 => ?_) (cn_e6v _ _) rfl rfl
  obtain ⟨fc, fb, fn, fr, a1, a2, a3, a4, a5, a6, a7, a8, a9, a10, a11, a12, a13, a14, a15, a16, a17, a18, a19, a20, a21⟩ := u2
  refine br_t rfl (nm_r (e' := nI 2) rfl ⟨2, ?_⟩)
  refine pk_le 3 2 (fun z => absurd z (by omega)) (fun _ => ?_)
  refine cn_hopw (i := 2) (j := 1) (k := 4) (g := 60) h2 (by omega) rfl (br_t rfl ?_)
  refine cn_st (i := 2) (k := 4) (g := 60) hq h2 (by omega) rfl rfl (fun _ => br_t rfl ?_) (fun z => absurd z (by omega))
  refine cn_arr (i := 2) (k := 4) (g := 60) hq h2 (by omega) rfl rfl (br_t (by rw [t42]; rfl) (nm_e (nm_r (e' := nI 3) rfl ?_)))
  exact cn_TailS hq he hp h2 P
theorem cn_L908N {post : Int32 → St0 → Prop} {mc ms kc ks : Nat} {fc fb fn fr : Int32} {a1 a2 a3 a4 a5 a6 a7 a8 a9 a10 a11 a12 a13 a14 a15 a16 a17 a18 a19 a20 a21 : Nat → Int32} {q : cn_Q} {p x y l0 h0 l1 h1 : Nat} {A : Nat → Int32} (hq : cn_ok q) (hp : p ≤ 29) (hy : y ≤ 100) (h : cn_I q 3 3 p cn_C2 (cn_BB l0 h0 1 l1 h1 30 60 60) (cn_3 false true true false) (cn_3 [] [(0, x)] [(0, y)] [(1, 0)]) A (fc, fb, fn, fr, a1, a2, a3, a4, a5, a6, a7, a8, a9, a10, a11, a12, a13, a14, a15, a16, a17, a18, a19, a20, a21)) (P : post 1 ()) : wL_lawOf_908 post mc ms (nI (cn_b q)) (nI (cn_v q)) (nI (6 * cn_a q + cn_b q)) (nI p) 2 kc ks fc fb fn fr a1 a2 a3 a4 a5 a6 a7 a8 a9 a10 a11 a12 a13 a14 a15 a16 a17 a18 a19 a20 a21 := by
  have t32 := cn_tz hq 3 2 (by omega)
  have d3 : cn_D 3 = 0 := rfl
  unfold wL_lawOf_908
  refine cn_Tc3N hq hp h (fun u1 h1 => ?_) (cn_e6v _ _) rfl rfl
  obtain ⟨fc, fb, fn, fr, a1, a2, a3, a4, a5, a6, a7, a8, a9, a10, a11, a12, a13, a14, a15, a16, a17, a18, a19, a20, a21⟩ := u1
  refine br_t rfl ?_
  refine cn_hopw (i := 2) (j := 1) (k := 3) (g := 60) h1 (by omega) rfl (br_t rfl ?_)
  refine cn_st (i := 2) (k := 3) (g := 60) hq h1 (by omega) rfl rfl (fun _ => br_t rfl ?_) (fun z => absurd z (by omega))
  refine cn_arr (i := 2) (k := 3) (g := 60) hq h1 (by omega) rfl rfl (br_t (by rw [t32]; rfl) ?_)
  refine cn_bk3 h1 (by omega) (br_t rfl ?_)
  refine cn_Tc4N hq rfl rfl rfl h1 (fun u2 h2 => ?_) (cn_e6v _ _) rfl rfl
  obtain ⟨fc, fb, fn, fr, a1, a2, a3, a4, a5, a6, a7, a8, a9, a10, a11, a12, a13, a14, a15, a16, a17, a18, a19, a20, a21⟩ := u2
  refine br_t rfl (nm_r (e' := nI 3) rfl ⟨1, ?_⟩)
  exact cn_TailN hq hp hy h2 P
end
section
theorem cn_bk1 {post : Int32 → Prop} {u : St2} {q : cn_Q} {n m T : Nat} {C : Nat → Bool} {R : Nat → Bool} {H : Nat → List (Nat × Nat)} {A : Nat → Int32} {l0 h0 e h h2 h3 h4 : Nat} {x0 : Int32} (hI : cn_I q n m T C (cn_BB l0 h0 1 e (e + h) h2 h3 h4) R H A u) (hn : 1 < n) (hC : C 1 = false) (he : 1 ≤ e) (hh : e + h ≤ 101) (K : post (nI (1 + h))) (e0 : x0 = nI 1 := by rfl) : wpX_booked post u x0 := by
  refine cn_bk (k := 1) (fun t => min t 1 + (min t (e + h) - min t e)) hI hn hC (by show min 0 1 + (min 0 (e + h) - min 0 e) = 0; omega) (fun t ht hb => ?_) (fun t ht hb => ?_) ?_ e0
  · unfold cn_BB at hb
    show min (t + 1) 1 + (min (t + 1) (e + h) - min (t + 1) e) = min t 1 + (min t (e + h) - min t e) + 1
    omega
  · unfold cn_BB at hb
    show min (t + 1) 1 + (min (t + 1) (e + h) - min (t + 1) e) = min t 1 + (min t (e + h) - min t e)
    omega
  · show post (nI (min 101 1 + (min 101 (e + h) - min 101 e)))
    rw [show min 101 1 + (min 101 (e + h) - min 101 e) = 1 + h by omega]
    exact K
theorem cn_bk2 {post : Int32 → Prop} {u : St2} {q : cn_Q} {n m T : Nat} {C : Nat → Bool} {R : Nat → Bool} {H : Nat → List (Nat × Nat)} {A : Nat → Int32} {l0 h0 z1 l1 h1 h3 h4 : Nat} (h2 : Nat) {x0 : Int32} (hI : cn_I q n m T C (cn_BB l0 h0 z1 l1 h1 h2 h3 h4) R H A u) (hn : 2 < n) (hC : C 2 = false) (ha : 30 ≤ h2) (hb : h2 ≤ 101) (K : post (nI (h2 - 30))) (e0 : x0 = nI 2 := by rfl) : wpX_booked post u x0 := by
  refine cn_bk (k := 2) (fun t => min t h2 - min t 30) hI hn hC (by show min 0 h2 - min 0 30 = 0; omega) (fun t ht hb => ?_) (fun t ht hb => ?_) ?_ e0
  · unfold cn_BB at hb
    show min (t + 1) h2 - min (t + 1) 30 = min t h2 - min t 30 + 1
    omega
  · unfold cn_BB at hb
    show min (t + 1) h2 - min (t + 1) 30 = min t h2 - min t 30
    omega
  · show post (nI (min 101 h2 - min 101 30))
    rw [show min 101 h2 - min 101 30 = h2 - 30 by omega]
    exact K
theorem cn_bkz {post : Int32 → Prop} {u : St2} {q : cn_Q} {n m T : Nat} {C : Nat → Bool} {R : Nat → Bool} {H : Nat → List (Nat × Nat)} {A : Nat → Int32} {l0 h0 z1 l1 h1 h2 h3 h4 : Nat} {x0 : Int32} (hI : cn_I q n m T C (cn_BB l0 h0 z1 l1 h1 h2 h3 h4) R H A u) (hn : 0 < n) (hC : C 0 = false) (ha : l0 ≤ h0) (hb : h0 ≤ 101) (K : post (nI (h0 - l0))) (e0 : x0 = nI 0 := by rfl) : wpX_booked post u x0 := by
  refine cn_bk (k := 0) (fun t => min t h0 - min t l0) hI hn hC (by show min 0 h0 - min 0 l0 = 0; omega) (fun t ht hb => ?_) (fun t ht hb => ?_) ?_ e0
  · unfold cn_BB at hb
    show min (t + 1) h0 - min (t + 1) l0 = min t h0 - min t l0 + 1
    omega
  · unfold cn_BB at hb
    show min (t + 1) h0 - min (t + 1) l0 = min t h0 - min t l0
    omega
  · show post (nI (min 101 h0 - min 101 l0))
    rw [show min 101 h0 - min 101 l0 = h0 - l0 by omega]
    exact K
theorem cn_L838F {post : Int32 → St0 → Prop} {mc ms kc ks : Nat} {fc fb fn fr : Int32} {a1 a2 a3 a4 a5 a6 a7 a8 a9 a10 a11 a12 a13 a14 a15 a16 a17 a18 a19 a20 a21 : Nat → Int32} {q : cn_Q} {p e : Nat} {A : Nat → Int32} {z0 z1 : Int32} (hq : cn_ok q) (he : e = max p 1) (hp : p ≤ 29) (h : cn_I q 3 3 p cn_C2 (cn_BB 0 0 1 e (e + 2) 30 60 60) (cn_3 false false false false) (cn_3 [] [(1, e)] [(1, e + 1)] [(1, 0)]) A (fc, fb, fn, fr, a1, a2, a3, a4, a5, a6, a7, a8, a9, a10, a11, a12, a13, a14, a15, a16, a17, a18, a19, a20, a21)) (P : post 1 ()) (hz : z1 = z0) : wL_lawOf_838 post mc ms (nI (cn_a q)) (nI (cn_b q)) (nI (cn_v q)) (nI (6 * cn_a q + cn_b q)) (nI p) (nI 1) (nI 1) (nI 3) z0 z1 kc ks fc fb fn fr a1 a2 a3 a4 a5 a6 a7 a8 a9 a10 a11 a12 a13 a14 a15 a16 a17 a18 a19 a20 a21 := by
  have hok := hq
  obtain ⟨q1, q2, q3, q4, q5, q6, q7, q8, q9, q10, q11⟩ := hok
  have t10 := cn_tz hq 1 0 (by omega)
  have d1 : cn_D 1 = 0 := rfl
  unfold wL_lawOf_838
  refine br_t hz ?_
  refine cn_arr0 (i := 2) h (by omega) rfl (br_t rfl ?_)
  refine cn_bk1 h (by omega) rfl (by omega) (by omega) (br_t rfl ?_)
  refine br_t rfl (cn_st0 (i := 0) h (by omega) rfl (br_t rfl ?_))
  refine cn_place (i := 0) hq h (by omega) (br_t ?_ ?_)
  · show nI (cn_pl q p (cn_z q 0) (cn_v q) [(1, e)]) = nI (cn_a q)
    rw [cn_plw (by omega) (by omega)]
    rfl
  exact br_t rfl (cn_L908F hq he hp h P)
theorem cn_L700F {post : Int32 → St0 → Prop} {mc ms kc ks : Nat} {fc fb fn fr : Int32} {a1 a2 a3 a4 a5 a6 a7 a8 a9 a10 a11 a12 a13 a14 a15 a16 a17 a18 a19 a20 a21 : Nat → Int32} {q : cn_Q} {p e : Nat} {A : Nat → Int32} (hq : cn_ok q) (he : e = max p 1) (hp : p ≤ 29) (h : cn_I q 3 3 p cn_C1 (cn_BB 0 0 1 e (e + 2) 33 60 60) (cn_3 false true true true) (cn_3 [] [(1, e), (2, 31)] [(1, e + 1), (2, 32)] [(1, 0), (2, 30)]) A (fc, fb, fn, fr, a1, a2, a3, a4, a5, a6, a7, a8, a9, a10, a11, a12, a13, a14, a15, a16, a17, a18, a19, a20, a21)) (P : post 1 ()) : wL_lawOf_700 post mc ms (nI (cn_a q)) (nI (cn_b q)) (nI (cn_v q)) (nI (6 * cn_a q + cn_b q)) (nI p) (nI 1) (nI 1) kc ks fc fb fn fr a1 a2 a3 a4 a5 a6 a7 a8 a9 a10 a11 a12 a13 a14 a15 a16 a17 a18 a19 a20 a21 := by
  have hok := hq
  obtain ⟨q1, q2, q3, q4, q5, q6, q7, q8, q9, q10, q11⟩ := hok
  have t12 := cn_tz hq 1 2 (by omega)
  have d1 : cn_D 1 = 0 := rfl
  obtain ⟨g, g1, g2, g3, g4⟩ := cn_fr1st (h := 2) he hp (Nat.le_refl p) (by omega)
  unfold wL_lawOf_700
  refine nm_r (e' := nI 3) rfl ?_
  refine cn_quote (nd := cn_a q) (tg := cn_b q) (z := 9) hq h q1 q3 q5 (by omega) 37 (cn_qa (h := 2) hq g1 g2 (by omega) g3 g4) (fun _ u1 h1 => ?_) (fun z => absurd z (by omega))
  obtain ⟨fc, fb, fn, fr, a1, a2, a3, a4, a5, a6, a7, a8, a9, a10, a11, a12, a13, a14, a15, a16, a17, a18, a19, a20, a21⟩ := u1
  refine br_t rfl ?_
  refine cn_late (nd := cn_a q) (tg := cn_b q) (z := 9) (y := 36) hq h1 q1 q3 q5 (by omega) (by omega) (by omega) (Nat.lt_of_lt_of_eq (show 36 < 37 by omega) (cn_qa (h := 2) hq g1 g2 (by omega) g3 g4).symm) (fun u2 h2 => ?_)
  obtain ⟨fc, fb, fn, fr, a1, a2, a3, a4, a5, a6, a7, a8, a9, a10, a11, a12, a13, a14, a15, a16, a17, a18, a19, a20, a21⟩ := u2
  refine br_t rfl ?_
  refine cn_latest (nd := cn_a q) (tg := cn_b q) (z := 9) (y := 37) (L := 32) hq h2 q1 q3 q5 (by omega) (by omega) (by omega) (by omega) (cn_qth (h := 2) hq he hp (by omega)) (fun u3 h3 => ?_)
  obtain ⟨fc, fb, fn, fr, a1, a2, a3, a4, a5, a6, a7, a8, a9, a10, a11, a12, a13, a14, a15, a16, a17, a18, a19, a20, a21⟩ := u3
  refine br_t rfl ?_
  refine cn_latest (nd := cn_v q) (tg := cn_b q) (z := 9) (y := 1000) (L := 98) hq h3 q2 q3 q6 (by omega) (by omega) (by omega) (by omega) (fun r _ hr => cn_qv (h := 2) hq hr (by omega)) (fun u4 h4 => ?_) (cn_e6v _ _)
  obtain ⟨fc, fb, fn, fr, a1, a2, a3, a4, a5, a6, a7, a8, a9, a10, a11, a12, a13, a14, a15, a16, a17, a18, a19, a20, a21⟩ := u4
  refine br_t rfl ?_
  refine cn_Tx2F hq he hp h4 (fun A5 u5 h5 => ?_)
  obtain ⟨fc, fb, fn, fr, a1, a2, a3, a4, a5, a6, a7, a8, a9, a10, a11, a12, a13, a14, a15, a16, a17, a18, a19, a20, a21⟩ := u5
  refine br_t rfl ?_
  refine cn_st0 (i := 2) h5 (by omega) rfl (br_t rfl ?_)
  refine cn_hops (i := 2) h5 (by omega) (br_t rfl ?_)
  refine cn_place (i := 2) hq h5 (by omega) ?_
  refine pk_le p 0 (fun z => ?_) (fun z => ?_)
  · exact cn_L838F hq he hp h5 P (congrArg nI (cn_plw (k := 1) (g := 0) (l := []) (by omega) (by omega)))
  · exact cn_L838F hq he hp h5 P (congrArg nI (cn_pl1n (k := 1) (g := 0) (by omega)))
theorem cn_L628F {post : Int32 → St0 → Prop} {mc ms kc ks : Nat} {fc fb fn fr : Int32} {a1 a2 a3 a4 a5 a6 a7 a8 a9 a10 a11 a12 a13 a14 a15 a16 a17 a18 a19 a20 a21 : Nat → Int32} {q : cn_Q} {p e : Nat} {A : Nat → Int32} (hq : cn_ok q) (he : e = max p 1) (hp : p ≤ 29) (h : cn_I q 3 3 p cn_C1 (cn_BB 0 0 1 e (e + 2) 33 60 60) (cn_3 false true true true) (cn_3 [] [(1, e), (2, 31)] [(1, e + 1), (2, 32)] [(1, 0), (2, 30)]) A (fc, fb, fn, fr, a1, a2, a3, a4, a5, a6, a7, a8, a9, a10, a11, a12, a13, a14, a15, a16, a17, a18, a19, a20, a21)) (P : post 1 ()) : wL_lawOf_628 post mc ms (nI (cn_a q)) (nI (cn_b q)) (nI (cn_v q)) (nI (6 * cn_a q + cn_b q)) (nI p) (nI 1) (nI 1) (nI e) kc ks fc fb fn fr a1 a2 a3 a4 a5 a6 a7 a8 a9 a10 a11 a12 a13 a14 a15 a16 a17 a18 a19 a20 a21 := by
  have t11 := cn_tz hq 1 1 (by omega)
  have d1 : cn_D 1 = 0 := rfl
  unfold wL_lawOf_628
  refine br_t rfl (cn_hops (i := 1) h (by omega) (br_t rfl ?_))
  refine cn_place (i := 1) hq h (by omega) (br_t (congrArg nI (cn_plw (k := 1) (g := e + 1) (l := [(2, 32)]) (by omega) (by omega))) ?_)
  refine cn_hopw (i := 1) (j := 0) (k := 1) (g := e + 1) h (by omega) rfl (br_t ?_ ?_)
  · rw [show (1000 : Int32) = nI 1000 from rfl, nI_add, nI_add]
    exact congrArg nI (by omega)
  refine cn_hopw (i := 1) (j := 1) (k := 2) (g := 32) h (by omega) rfl (br_t rfl ?_)
  refine cn_bk2 33 h (by omega) rfl (by omega) (by omega) (br_t rfl ?_)
  exact cn_L700F hq he hp h P
theorem cn_L516F {post : Int32 → St0 → Prop} {mc ms kc ks : Nat} {fc fb fn fr : Int32} {a1 a2 a3 a4 a5 a6 a7 a8 a9 a10 a11 a12 a13 a14 a15 a16 a17 a18 a19 a20 a21 : Nat → Int32} {q : cn_Q} {p e : Nat} {A : Nat → Int32} {z0 : Int32} (hq : cn_ok q) (he : e = max p 1) (hp : p ≤ 29) (hc : p < cn_s q + cn_o q) (h : cn_I q 3 3 p cn_C1 (cn_BB 0 0 1 e (e + 2) 33 60 60) (cn_3 false true true true) (cn_3 [] [(1, e), (2, 31)] [(1, e + 1), (2, 32)] [(1, 0), (2, 30)]) A (fc, fb, fn, fr, a1, a2, a3, a4, a5, a6, a7, a8, a9, a10, a11, a12, a13, a14, a15, a16, a17, a18, a19, a20, a21)) (P : post 1 ()) (hz : z0 = nI e) : wL_lawOf_516 post mc ms (nI (cn_a q)) (nI (cn_b q)) (nI (cn_v q)) (nI (cn_o q)) (nI (cn_s q)) (nI (6 * cn_a q + cn_b q)) (nI p) (nI 1) (nI 1) z0 kc ks fc fb fn fr a1 a2 a3 a4 a5 a6 a7 a8 a9 a10 a11 a12 a13 a14 a15 a16 a17 a18 a19 a20 a21 := by
  subst hz
  have t10 := cn_tz hq 1 0 (by omega)
  have t20 := cn_tz hq 2 0 (by omega)
  have t00 : cn_t 0 (cn_z q 0) = cn_o q := cn_t0
  have d0 : cn_D 0 = 0 := rfl
  have d1 : cn_D 1 = 0 := rfl
  unfold wL_lawOf_516
  refine br_t rfl (cn_hops (i := 0) h (by omega) (br_t rfl ?_))
  refine cn_place (i := 0) hq h (by omega) (br_t (congrArg nI (cn_plw (k := 1) (g := e) (l := [(2, 31)]) (by omega) (by omega))) ?_)
  refine cn_hopw (i := 0) (j := 0) (k := 1) (g := e) h (by omega) rfl (br_t ?_ ?_)
  · rw [show (1000 : Int32) = nI 1000 from rfl, nI_add]
  refine cn_hopw (i := 0) (j := 1) (k := 2) (g := 31) h (by omega) rfl (br_t rfl ?_)
  refine cn_arr (i := 0) (k := 2) (g := 31) hq h (by omega) rfl rfl (br_t (by rw [t20]; rfl) ?_)
  exact cn_L628F hq he hp h P
theorem cn_L499F {post : Int32 → St0 → Prop} {mc ms kc ks : Nat} {fc fb fn fr : Int32} {a1 a2 a3 a4 a5 a6 a7 a8 a9 a10 a11 a12 a13 a14 a15 a16 a17 a18 a19 a20 a21 : Nat → Int32} {q : cn_Q} {p e : Nat} {A : Nat → Int32} {z0 z1 : Int32} (hq : cn_ok q) (he : e = max p 1) (hp : p ≤ 29) (hc : p < cn_s q + cn_o q) (h : cn_I q 3 3 p cn_C1 (cn_BB 0 0 1 e (e + 2) 33 60 60) (cn_3 false true true true) (cn_3 [] [(1, e), (2, 31)] [(1, e + 1), (2, 32)] [(1, 0), (2, 30)]) A (fc, fb, fn, fr, a1, a2, a3, a4, a5, a6, a7, a8, a9, a10, a11, a12, a13, a14, a15, a16, a17, a18, a19, a20, a21)) (P : post 1 ()) (hz : z1 = z0) : wL_lawOf_499 post mc ms (nI (cn_a q)) (nI (cn_b q)) (nI (cn_v q)) (nI (cn_o q)) (nI (cn_s q)) (nI (6 * cn_a q + cn_b q)) (nI p) (nI 1) (nI 1) z0 z1 kc ks fc fb fn fr a1 a2 a3 a4 a5 a6 a7 a8 a9 a10 a11 a12 a13 a14 a15 a16 a17 a18 a19 a20 a21 := by
  unfold wL_lawOf_499
  refine br_t hz (pk_le p 1 (fun z => ?_) (fun z => ?_))
  · exact cn_L516F hq he hp hc h P (show nI 1 = nI e from congrArg nI (by omega))
  · exact cn_L516F hq he hp hc h P (congrArg nI (by omega))
theorem cn_L439F {post : Int32 → St0 → Prop} {mc ms kc ks : Nat} {fc fb fn fr : Int32} {a1 a2 a3 a4 a5 a6 a7 a8 a9 a10 a11 a12 a13 a14 a15 a16 a17 a18 a19 a20 a21 : Nat → Int32} {q : cn_Q} {p e : Nat} {A : Nat → Int32} (hq : cn_ok q) (he : e = max p 1) (hp : p ≤ 29) (hc : p < cn_s q + cn_o q) (h : cn_I q 3 3 p cn_C0 (cn_BB (cn_s q) (cn_s q + cn_o q + cn_w q) 1 0 0 31 60 60) (cn_3 false true true true) (cn_3 [] [(0, cn_s q)] [(0, cn_s q + cn_o q)] [(1, 0), (2, 30)]) A (fc, fb, fn, fr, a1, a2, a3, a4, a5, a6, a7, a8, a9, a10, a11, a12, a13, a14, a15, a16, a17, a18, a19, a20, a21)) (P : post 1 ()) : wL_lawOf_439 post mc ms (nI (cn_a q)) (nI (cn_b q)) (nI (cn_v q)) (nI (cn_o q)) (nI (cn_s q)) (nI (6 * cn_a q + cn_b q)) (nI p) 1 1 kc ks fc fb fn fr a1 a2 a3 a4 a5 a6 a7 a8 a9 a10 a11 a12 a13 a14 a15 a16 a17 a18 a19 a20 a21 := by
  have hok := hq
  obtain ⟨q1, q2, q3, q4, q5, q6, q7, q8, q9, q10, q11⟩ := hok
  have t20 := cn_tz hq 2 0 (by omega)
  have t21 := cn_tz hq 2 1 (by omega)
  have t00 : cn_t 0 (cn_z q 0) = cn_o q := cn_t0
  have t01 : cn_t 0 (cn_z q 1) = cn_w q := cn_t0
  have d0 : cn_D 0 = 0 := rfl
  have d2 : cn_D 2 = 3 := rfl
  unfold wL_lawOf_439
  refine cn_Tx0F hq he hp hc h (fun A1 u1 h1 => ?_)
  obtain ⟨fc, fb, fn, fr, a1, a2, a3, a4, a5, a6, a7, a8, a9, a10, a11, a12, a13, a14, a15, a16, a17, a18, a19, a20, a21⟩ := u1
  refine br_t rfl (cn_bk0 (k := 0) h1 (by omega) rfl (br_t rfl ?_))
  refine cn_st (i := 0) (k := 2) (g := 31) hq h1 (by omega) rfl rfl (fun _ => br_t rfl (br_t rfl ?_)) (fun z => absurd z (by omega))
  refine cn_st (i := 1) (k := 2) (g := 32) hq h1 (by omega) rfl rfl (fun _ => br_t rfl ?_) (fun z => absurd z (by omega))
  exact cn_L499F hq he hp hc h1 P rfl
theorem cn_L838S {post : Int32 → St0 → Prop} {mc ms kc ks : Nat} {fc fb fn fr : Int32} {a1 a2 a3 a4 a5 a6 a7 a8 a9 a10 a11 a12 a13 a14 a15 a16 a17 a18 a19 a20 a21 : Nat → Int32} {q : cn_Q} {p e : Nat} {A : Nat → Int32} {z0 z1 : Int32} (hq : cn_ok q) (he : e = max p 1) (hp : p ≤ 29) (h : cn_I q 3 3 p cn_C2 (cn_BB (cn_s q) (cn_s q + cn_o q) 1 e (e + 1) 30 60 60) (cn_3 false true false false) (cn_3 [] [(0, cn_s q)] [(1, e)] [(1, 0)]) A (fc, fb, fn, fr, a1, a2, a3, a4, a5, a6, a7, a8, a9, a10, a11, a12, a13, a14, a15, a16, a17, a18, a19, a20, a21)) (P : post 1 ()) (hz : z1 = z0) : wL_lawOf_838 post mc ms (nI (cn_a q)) (nI (cn_b q)) (nI (cn_v q)) (nI (6 * cn_a q + cn_b q)) (nI p) (nI 0) (nI 1) (nI 2) z0 z1 kc ks fc fb fn fr a1 a2 a3 a4 a5 a6 a7 a8 a9 a10 a11 a12 a13 a14 a15 a16 a17 a18 a19 a20 a21 := by
  have hok := hq
  obtain ⟨q1, q2, q3, q4, q5, q6, q7, q8, q9, q10, q11⟩ := hok
  have t10 := cn_tz hq 1 0 (by omega)
  have d1 : cn_D 1 = 0 := rfl
  unfold wL_lawOf_838
  refine br_t hz ?_
  refine cn_arr0 (i := 2) h (by omega) rfl (br_t rfl ?_)
  refine cn_bk1 h (by omega) rfl (by omega) (by omega) (br_t rfl ?_)
  exact br_f (by decide) (br_f (by decide) (br_t rfl (cn_L908S hq he hp h P)))
theorem cn_L700S {post : Int32 → St0 → Prop} {mc ms kc ks : Nat} {fc fb fn fr : Int32} {a1 a2 a3 a4 a5 a6 a7 a8 a9 a10 a11 a12 a13 a14 a15 a16 a17 a18 a19 a20 a21 : Nat → Int32} {q : cn_Q} {p e : Nat} {A : Nat → Int32} (hq : cn_ok q) (he : e = max p 1) (hp : p ≤ 29) (h : cn_I q 3 3 p cn_C1 (cn_BB (cn_s q) (cn_s q + cn_o q) 1 e (e + 1) 32 60 60) (cn_3 false true true true) (cn_3 [] [(0, cn_s q)] [(1, e), (2, 31)] [(1, 0), (2, 30)]) A (fc, fb, fn, fr, a1, a2, a3, a4, a5, a6, a7, a8, a9, a10, a11, a12, a13, a14, a15, a16, a17, a18, a19, a20, a21)) (P : post 1 ()) : wL_lawOf_700 post mc ms (nI (cn_a q)) (nI (cn_b q)) (nI (cn_v q)) (nI (6 * cn_a q + cn_b q)) (nI p) (nI 0) (nI 1) kc ks fc fb fn fr a1 a2 a3 a4 a5 a6 a7 a8 a9 a10 a11 a12 a13 a14 a15 a16 a17 a18 a19 a20 a21 := by
  have hok := hq
  obtain ⟨q1, q2, q3, q4, q5, q6, q7, q8, q9, q10, q11⟩ := hok
  have t12 := cn_tz hq 1 2 (by omega)
  have d1 : cn_D 1 = 0 := rfl
  obtain ⟨g, g1, g2, g3, g4⟩ := cn_fr1st (h := 1) he hp (Nat.le_refl p) (by omega)
  unfold wL_lawOf_700
  refine nm_r (e' := nI 2) rfl ?_
  refine cn_quote (nd := cn_a q) (tg := cn_b q) (z := 9) hq h q1 q3 q5 (by omega) 36 (cn_qa (h := 1) hq g1 g2 (by omega) g3 g4) (fun _ u1 h1 => ?_) (fun z => absurd z (by omega))
  obtain ⟨fc, fb, fn, fr, a1, a2, a3, a4, a5, a6, a7, a8, a9, a10, a11, a12, a13, a14, a15, a16, a17, a18, a19, a20, a21⟩ := u1
  refine br_t rfl ?_
  refine cn_late (nd := cn_a q) (tg := cn_b q) (z := 9) (y := 35) hq h1 q1 q3 q5 (by omega) (by omega) (by omega) (Nat.lt_of_lt_of_eq (show 35 < 36 by omega) (cn_qa (h := 1) hq g1 g2 (by omega) g3 g4).symm) (fun u2 h2 => ?_)
  obtain ⟨fc, fb, fn, fr, a1, a2, a3, a4, a5, a6, a7, a8, a9, a10, a11, a12, a13, a14, a15, a16, a17, a18, a19, a20, a21⟩ := u2
  refine br_t rfl ?_
  refine cn_latest (nd := cn_a q) (tg := cn_b q) (z := 9) (y := 36) (L := 31) hq h2 q1 q3 q5 (by omega) (by omega) (by omega) (by omega) (cn_qth (h := 1) hq he hp (by omega)) (fun u3 h3 => ?_)
  obtain ⟨fc, fb, fn, fr, a1, a2, a3, a4, a5, a6, a7, a8, a9, a10, a11, a12, a13, a14, a15, a16, a17, a18, a19, a20, a21⟩ := u3
  refine br_t rfl ?_
  refine cn_latest (nd := cn_v q) (tg := cn_b q) (z := 9) (y := 1000) (L := 98) hq h3 q2 q3 q6 (by omega) (by omega) (by omega) (by omega) (fun r _ hr => cn_qv (h := 1) hq hr (by omega)) (fun u4 h4 => ?_) (cn_e6v _ _)
  obtain ⟨fc, fb, fn, fr, a1, a2, a3, a4, a5, a6, a7, a8, a9, a10, a11, a12, a13, a14, a15, a16, a17, a18, a19, a20, a21⟩ := u4
  refine br_t rfl ?_
  refine cn_Tx2S hq he hp h4 (fun A5 u5 h5 => ?_)
  obtain ⟨fc, fb, fn, fr, a1, a2, a3, a4, a5, a6, a7, a8, a9, a10, a11, a12, a13, a14, a15, a16, a17, a18, a19, a20, a21⟩ := u5
  refine br_t rfl ?_
  refine cn_st0 (i := 2) h5 (by omega) rfl (br_t rfl ?_)
  refine cn_hops (i := 2) h5 (by omega) (br_t rfl ?_)
  refine cn_place (i := 2) hq h5 (by omega) ?_
  refine pk_le p 0 (fun z => ?_) (fun z => ?_)
  · exact cn_L838S hq he hp h5 P (congrArg nI (cn_plw (k := 1) (g := 0) (l := []) (by omega) (by omega)))
  · exact cn_L838S hq he hp h5 P (congrArg nI (cn_pl1n (k := 1) (g := 0) (by omega)))
theorem cn_L628S {post : Int32 → St0 → Prop} {mc ms kc ks : Nat} {fc fb fn fr : Int32} {a1 a2 a3 a4 a5 a6 a7 a8 a9 a10 a11 a12 a13 a14 a15 a16 a17 a18 a19 a20 a21 : Nat → Int32} {q : cn_Q} {p e : Nat} {A : Nat → Int32} (hq : cn_ok q) (he : e = max p 1) (hp : p ≤ 29) (h : cn_I q 3 3 p cn_C1 (cn_BB (cn_s q) (cn_s q + cn_o q) 1 e (e + 1) 32 60 60) (cn_3 false true true true) (cn_3 [] [(0, cn_s q)] [(1, e), (2, 31)] [(1, 0), (2, 30)]) A (fc, fb, fn, fr, a1, a2, a3, a4, a5, a6, a7, a8, a9, a10, a11, a12, a13, a14, a15, a16, a17, a18, a19, a20, a21)) (P : post 1 ()) : wL_lawOf_628 post mc ms (nI (cn_a q)) (nI (cn_b q)) (nI (cn_v q)) (nI (6 * cn_a q + cn_b q)) (nI p) (nI 0) (nI 1) (nI e) kc ks fc fb fn fr a1 a2 a3 a4 a5 a6 a7 a8 a9 a10 a11 a12 a13 a14 a15 a16 a17 a18 a19 a20 a21 := by
  have t11 := cn_tz hq 1 1 (by omega)
  have d1 : cn_D 1 = 0 := rfl
  unfold wL_lawOf_628
  refine br_t rfl (cn_hops (i := 1) h (by omega) (br_t rfl ?_))
  refine cn_place (i := 1) hq h (by omega) (br_t (congrArg nI (cn_plw (k := 1) (g := e) (l := [(2, 31)]) (by omega) (by omega))) ?_)
  refine cn_hopw (i := 1) (j := 0) (k := 1) (g := e) h (by omega) rfl (br_t ?_ ?_)
  · rw [show (1000 : Int32) = nI 1000 from rfl, nI_add, nI_add]
    exact congrArg nI (by omega)
  refine cn_hopw (i := 1) (j := 1) (k := 2) (g := 31) h (by omega) rfl (br_t rfl ?_)
  refine cn_bk2 32 h (by omega) rfl (by omega) (by omega) (br_t rfl ?_)
  exact cn_L700S hq he hp h P
theorem cn_L516S {post : Int32 → St0 → Prop} {mc ms kc ks : Nat} {fc fb fn fr : Int32} {a1 a2 a3 a4 a5 a6 a7 a8 a9 a10 a11 a12 a13 a14 a15 a16 a17 a18 a19 a20 a21 : Nat → Int32} {q : cn_Q} {p e : Nat} {A : Nat → Int32} {z0 : Int32} (hq : cn_ok q) (he : e = max p 1) (hp : p ≤ 29) (hc : cn_s q + cn_o q ≤ p) (hd : p < cn_s q + cn_o q + cn_w q) (h : cn_I q 3 3 p cn_C1 (cn_BB (cn_s q) (cn_s q + cn_o q) 1 e (e + 1) 32 60 60) (cn_3 false true true true) (cn_3 [] [(0, cn_s q)] [(1, e), (2, 31)] [(1, 0), (2, 30)]) A (fc, fb, fn, fr, a1, a2, a3, a4, a5, a6, a7, a8, a9, a10, a11, a12, a13, a14, a15, a16, a17, a18, a19, a20, a21)) (P : post 1 ()) (hz : z0 = nI e) : wL_lawOf_516 post mc ms (nI (cn_a q)) (nI (cn_b q)) (nI (cn_v q)) (nI (cn_o q)) (nI (cn_s q)) (nI (6 * cn_a q + cn_b q)) (nI p) (nI 0) (nI 1) z0 kc ks fc fb fn fr a1 a2 a3 a4 a5 a6 a7 a8 a9 a10 a11 a12 a13 a14 a15 a16 a17 a18 a19 a20 a21 := by
  subst hz
  have t10 := cn_tz hq 1 0 (by omega)
  have t20 := cn_tz hq 2 0 (by omega)
  have t00 : cn_t 0 (cn_z q 0) = cn_o q := cn_t0
  have d0 : cn_D 0 = 0 := rfl
  have d1 : cn_D 1 = 0 := rfl
  unfold wL_lawOf_516
  refine br_f (by decide) (cn_place (i := 0) hq h (by omega) (br_t (congrArg nI (cn_pl1n (k := 0) (g := cn_s q) (by omega))) ?_))
  refine cn_hops (i := 0) h (by omega) (br_t rfl ?_)
  refine cn_hopw (i := 0) (j := 0) (k := 0) (g := cn_s q) h (by omega) rfl (br_t (congrArg nI (by omega)) ?_)
  refine cn_arr (i := 0) (k := 0) (g := cn_s q) hq h (by omega) rfl rfl (br_t ?_ ?_)
  · rw [nI_add]
    exact congrArg nI (by omega)
  exact cn_L628S hq he hp h P
theorem cn_L499S {post : Int32 → St0 → Prop} {mc ms kc ks : Nat} {fc fb fn fr : Int32} {a1 a2 a3 a4 a5 a6 a7 a8 a9 a10 a11 a12 a13 a14 a15 a16 a17 a18 a19 a20 a21 : Nat → Int32} {q : cn_Q} {p e : Nat} {A : Nat → Int32} {z0 z1 : Int32} (hq : cn_ok q) (he : e = max p 1) (hp : p ≤ 29) (hc : cn_s q + cn_o q ≤ p) (hd : p < cn_s q + cn_o q + cn_w q) (h : cn_I q 3 3 p cn_C1 (cn_BB (cn_s q) (cn_s q + cn_o q) 1 e (e + 1) 32 60 60) (cn_3 false true true true) (cn_3 [] [(0, cn_s q)] [(1, e), (2, 31)] [(1, 0), (2, 30)]) A (fc, fb, fn, fr, a1, a2, a3, a4, a5, a6, a7, a8, a9, a10, a11, a12, a13, a14, a15, a16, a17, a18, a19, a20, a21)) (P : post 1 ()) (hz : z1 = z0) : wL_lawOf_499 post mc ms (nI (cn_a q)) (nI (cn_b q)) (nI (cn_v q)) (nI (cn_o q)) (nI (cn_s q)) (nI (6 * cn_a q + cn_b q)) (nI p) (nI 0) (nI 1) z0 z1 kc ks fc fb fn fr a1 a2 a3 a4 a5 a6 a7 a8 a9 a10 a11 a12 a13 a14 a15 a16 a17 a18 a19 a20 a21 := by
  unfold wL_lawOf_499
  refine br_t hz (pk_le p 1 (fun z => ?_) (fun z => ?_))
  · exact cn_L516S hq he hp hc hd h P (show nI 1 = nI e from congrArg nI (by omega))
  · exact cn_L516S hq he hp hc hd h P (congrArg nI (by omega))
theorem cn_L439S {post : Int32 → St0 → Prop} {mc ms kc ks : Nat} {fc fb fn fr : Int32} {a1 a2 a3 a4 a5 a6 a7 a8 a9 a10 a11 a12 a13 a14 a15 a16 a17 a18 a19 a20 a21 : Nat → Int32} {q : cn_Q} {p e : Nat} {A : Nat → Int32} (hq : cn_ok q) (he : e = max p 1) (hp : p ≤ 29) (hc : cn_s q + cn_o q ≤ p) (hd : p < cn_s q + cn_o q + cn_w q) (h : cn_I q 3 3 p cn_C0 (cn_BB (cn_s q) (cn_s q + cn_o q + cn_w q) 1 0 0 31 60 60) (cn_3 false true true true) (cn_3 [] [(0, cn_s q)] [(0, cn_s q + cn_o q)] [(1, 0), (2, 30)]) A (fc, fb, fn, fr, a1, a2, a3, a4, a5, a6, a7, a8, a9, a10, a11, a12, a13, a14, a15, a16, a17, a18, a19, a20, a21)) (P : post 1 ()) : wL_lawOf_439 post mc ms (nI (cn_a q)) (nI (cn_b q)) (nI (cn_v q)) (nI (cn_o q)) (nI (cn_s q)) (nI (6 * cn_a q + cn_b q)) (nI p) 0 1 kc ks fc fb fn fr a1 a2 a3 a4 a5 a6 a7 a8 a9 a10 a11 a12 a13 a14 a15 a16 a17 a18 a19 a20 a21 := by
  have hok := hq
  obtain ⟨q1, q2, q3, q4, q5, q6, q7, q8, q9, q10, q11⟩ := hok
  have t20 := cn_tz hq 2 0 (by omega)
  have t21 := cn_tz hq 2 1 (by omega)
  have t00 : cn_t 0 (cn_z q 0) = cn_o q := cn_t0
  have t01 : cn_t 0 (cn_z q 1) = cn_w q := cn_t0
  have d0 : cn_D 0 = 0 := rfl
  have d2 : cn_D 2 = 3 := rfl
  unfold wL_lawOf_439
  refine cn_Tx0S hq he hp hc hd h (fun A1 u1 h1 => ?_)
  obtain ⟨fc, fb, fn, fr, a1, a2, a3, a4, a5, a6, a7, a8, a9, a10, a11, a12, a13, a14, a15, a16, a17, a18, a19, a20, a21⟩ := u1
  refine br_t rfl (cn_bk0 (k := 0) h1 (by omega) rfl (br_t rfl ?_))
  refine cn_st (i := 0) (k := 0) (g := cn_s q) hq h1 (by omega) rfl rfl (fun z => absurd z (by omega)) (fun _ => br_f (by decide) (br_t rfl ?_))
  refine cn_st (i := 1) (k := 2) (g := 31) hq h1 (by omega) rfl rfl (fun _ => br_t rfl ?_) (fun z => absurd z (by omega))
  exact cn_L499S hq he hp hc hd h1 P rfl
theorem cn_L838N {post : Int32 → St0 → Prop} {mc ms kc ks : Nat} {fc fb fn fr : Int32} {a1 a2 a3 a4 a5 a6 a7 a8 a9 a10 a11 a12 a13 a14 a15 a16 a17 a18 a19 a20 a21 : Nat → Int32} {q : cn_Q} {p e : Nat} {A : Nat → Int32} {z0 z1 : Int32} (hq : cn_ok q) (he : e = max p 1) (hp : p ≤ 29) (h : cn_I q 3 3 p cn_C2 (cn_BB (cn_s q) (cn_s q + cn_o q + cn_w q) 1 e (e + 0) 30 60 60) (cn_3 false true true false) (cn_3 [] [(0, cn_s q)] [(0, cn_s q + cn_o q)] [(1, 0)]) A (fc, fb, fn, fr, a1, a2, a3, a4, a5, a6, a7, a8, a9, a10, a11, a12, a13, a14, a15, a16, a17, a18, a19, a20, a21)) (P : post 1 ()) (hz : z1 = z0) : wL_lawOf_838 post mc ms (nI (cn_a q)) (nI (cn_b q)) (nI (cn_v q)) (nI (6 * cn_a q + cn_b q)) (nI p) (nI 0) (nI 0) (nI 1) z0 z1 kc ks fc fb fn fr a1 a2 a3 a4 a5 a6 a7 a8 a9 a10 a11 a12 a13 a14 a15 a16 a17 a18 a19 a20 a21 := by
  have hok := hq
  obtain ⟨q1, q2, q3, q4, q5, q6, q7, q8, q9, q10, q11⟩ := hok
  have t10 := cn_tz hq 1 0 (by omega)
  have d1 : cn_D 1 = 0 := rfl
  unfold wL_lawOf_838
  refine br_t hz ?_
  refine cn_arr0 (i := 2) h (by omega) rfl (br_t rfl ?_)
  refine cn_bk1 h (by omega) rfl (by omega) (by omega) (br_t rfl ?_)
  exact br_f (by decide) (br_f (by decide) (br_f (by decide) (cn_L908N hq hp (by omega) h P)))
theorem cn_L700N {post : Int32 → St0 → Prop} {mc ms kc ks : Nat} {fc fb fn fr : Int32} {a1 a2 a3 a4 a5 a6 a7 a8 a9 a10 a11 a12 a13 a14 a15 a16 a17 a18 a19 a20 a21 : Nat → Int32} {q : cn_Q} {p e : Nat} {A : Nat → Int32} (hq : cn_ok q) (he : e = max p 1) (hp : p ≤ 29) (h : cn_I q 3 3 p cn_C1 (cn_BB (cn_s q) (cn_s q + cn_o q + cn_w q) 1 e (e + 0) 31 60 60) (cn_3 false true true true) (cn_3 [] [(0, cn_s q)] [(0, cn_s q + cn_o q)] [(1, 0), (2, 30)]) A (fc, fb, fn, fr, a1, a2, a3, a4, a5, a6, a7, a8, a9, a10, a11, a12, a13, a14, a15, a16, a17, a18, a19, a20, a21)) (P : post 1 ()) : wL_lawOf_700 post mc ms (nI (cn_a q)) (nI (cn_b q)) (nI (cn_v q)) (nI (6 * cn_a q + cn_b q)) (nI p) (nI 0) (nI 0) kc ks fc fb fn fr a1 a2 a3 a4 a5 a6 a7 a8 a9 a10 a11 a12 a13 a14 a15 a16 a17 a18 a19 a20 a21 := by
  have hok := hq
  obtain ⟨q1, q2, q3, q4, q5, q6, q7, q8, q9, q10, q11⟩ := hok
  have t12 := cn_tz hq 1 2 (by omega)
  have d1 : cn_D 1 = 0 := rfl
  obtain ⟨g, g1, g2, g3, g4⟩ := cn_fr1st (h := 0) he hp (Nat.le_refl p) (by omega)
  unfold wL_lawOf_700
  refine nm_r (e' := nI 1) rfl ?_
  refine cn_quote (nd := cn_a q) (tg := cn_b q) (z := 9) hq h q1 q3 q5 (by omega) 35 (cn_qa (h := 0) hq g1 g2 (by omega) g3 g4) (fun _ u1 h1 => ?_) (fun z => absurd z (by omega))
  obtain ⟨fc, fb, fn, fr, a1, a2, a3, a4, a5, a6, a7, a8, a9, a10, a11, a12, a13, a14, a15, a16, a17, a18, a19, a20, a21⟩ := u1
  refine br_t rfl ?_
  refine cn_late (nd := cn_a q) (tg := cn_b q) (z := 9) (y := 34) hq h1 q1 q3 q5 (by omega) (by omega) (by omega) (Nat.lt_of_lt_of_eq (show 34 < 35 by omega) (cn_qa (h := 0) hq g1 g2 (by omega) g3 g4).symm) (fun u2 h2 => ?_)
  obtain ⟨fc, fb, fn, fr, a1, a2, a3, a4, a5, a6, a7, a8, a9, a10, a11, a12, a13, a14, a15, a16, a17, a18, a19, a20, a21⟩ := u2
  refine br_t rfl ?_
  refine cn_latest (nd := cn_a q) (tg := cn_b q) (z := 9) (y := 35) (L := 30) hq h2 q1 q3 q5 (by omega) (by omega) (by omega) (by omega) (cn_qth (h := 0) hq he hp (by omega)) (fun u3 h3 => ?_)
  obtain ⟨fc, fb, fn, fr, a1, a2, a3, a4, a5, a6, a7, a8, a9, a10, a11, a12, a13, a14, a15, a16, a17, a18, a19, a20, a21⟩ := u3
  refine br_t rfl ?_
  refine cn_latest (nd := cn_v q) (tg := cn_b q) (z := 9) (y := 1000) (L := 98) hq h3 q2 q3 q6 (by omega) (by omega) (by omega) (by omega) (fun r _ hr => cn_qv (h := 0) hq hr (by omega)) (fun u4 h4 => ?_) (cn_e6v _ _)
  obtain ⟨fc, fb, fn, fr, a1, a2, a3, a4, a5, a6, a7, a8, a9, a10, a11, a12, a13, a14, a15, a16, a17, a18, a19, a20, a21⟩ := u4
  refine br_t rfl ?_
  refine cn_Tx2N hq hp h4 (fun A5 u5 h5 => ?_)
  obtain ⟨fc, fb, fn, fr, a1, a2, a3, a4, a5, a6, a7, a8, a9, a10, a11, a12, a13, a14, a15, a16, a17, a18, a19, a20, a21⟩ := u5
  refine br_t rfl ?_
  refine cn_st0 (i := 2) h5 (by omega) rfl (br_t rfl ?_)
  refine cn_hops (i := 2) h5 (by omega) (br_t rfl ?_)
  refine cn_place (i := 2) hq h5 (by omega) ?_
  refine pk_le p 0 (fun z => ?_) (fun z => ?_)
  · exact cn_L838N hq he hp h5 P (congrArg nI (cn_plw (k := 1) (g := 0) (l := []) (by omega) (by omega)))
  · exact cn_L838N hq he hp h5 P (congrArg nI (cn_pl1n (k := 1) (g := 0) (by omega)))
theorem cn_L628N {post : Int32 → St0 → Prop} {mc ms kc ks : Nat} {fc fb fn fr : Int32} {a1 a2 a3 a4 a5 a6 a7 a8 a9 a10 a11 a12 a13 a14 a15 a16 a17 a18 a19 a20 a21 : Nat → Int32} {q : cn_Q} {p e : Nat} {A : Nat → Int32} (hq : cn_ok q) (he : e = max p 1) (hp : p ≤ 29) (h : cn_I q 3 3 p cn_C1 (cn_BB (cn_s q) (cn_s q + cn_o q + cn_w q) 1 e (e + 0) 31 60 60) (cn_3 false true true true) (cn_3 [] [(0, cn_s q)] [(0, cn_s q + cn_o q)] [(1, 0), (2, 30)]) A (fc, fb, fn, fr, a1, a2, a3, a4, a5, a6, a7, a8, a9, a10, a11, a12, a13, a14, a15, a16, a17, a18, a19, a20, a21)) (P : post 1 ()) : wL_lawOf_628 post mc ms (nI (cn_a q)) (nI (cn_b q)) (nI (cn_v q)) (nI (6 * cn_a q + cn_b q)) (nI p) (nI 0) (nI 0) (nI e) kc ks fc fb fn fr a1 a2 a3 a4 a5 a6 a7 a8 a9 a10 a11 a12 a13 a14 a15 a16 a17 a18 a19 a20 a21 := by
  have t11 := cn_tz hq 1 1 (by omega)
  have d1 : cn_D 1 = 0 := rfl
  unfold wL_lawOf_628
  exact br_f (by decide) (cn_L700N hq he hp h P)
theorem cn_L516N {post : Int32 → St0 → Prop} {mc ms kc ks : Nat} {fc fb fn fr : Int32} {a1 a2 a3 a4 a5 a6 a7 a8 a9 a10 a11 a12 a13 a14 a15 a16 a17 a18 a19 a20 a21 : Nat → Int32} {q : cn_Q} {p e : Nat} {A : Nat → Int32} {z0 : Int32} (hq : cn_ok q) (he : e = max p 1) (hp : p ≤ 29) (hc : cn_s q + cn_o q + cn_w q ≤ p) (h : cn_I q 3 3 p cn_C1 (cn_BB (cn_s q) (cn_s q + cn_o q + cn_w q) 1 e (e + 0) 31 60 60) (cn_3 false true true true) (cn_3 [] [(0, cn_s q)] [(0, cn_s q + cn_o q)] [(1, 0), (2, 30)]) A (fc, fb, fn, fr, a1, a2, a3, a4, a5, a6, a7, a8, a9, a10, a11, a12, a13, a14, a15, a16, a17, a18, a19, a20, a21)) (P : post 1 ()) (hz : z0 = nI e) : wL_lawOf_516 post mc ms (nI (cn_a q)) (nI (cn_b q)) (nI (cn_v q)) (nI (cn_o q)) (nI (cn_s q)) (nI (6 * cn_a q + cn_b q)) (nI p) (nI 0) (nI 0) z0 kc ks fc fb fn fr a1 a2 a3 a4 a5 a6 a7 a8 a9 a10 a11 a12 a13 a14 a15 a16 a17 a18 a19 a20 a21 := by
  subst hz
  have t10 := cn_tz hq 1 0 (by omega)
  have t20 := cn_tz hq 2 0 (by omega)
  have t00 : cn_t 0 (cn_z q 0) = cn_o q := cn_t0
  have d0 : cn_D 0 = 0 := rfl
  have d1 : cn_D 1 = 0 := rfl
  unfold wL_lawOf_516
  refine br_f (by decide) (cn_place (i := 0) hq h (by omega) (br_t (congrArg nI (cn_pl1n (k := 0) (g := cn_s q) (by omega))) ?_))
  refine cn_hops (i := 0) h (by omega) (br_t rfl ?_)
  refine cn_hopw (i := 0) (j := 0) (k := 0) (g := cn_s q) h (by omega) rfl (br_t (congrArg nI (by omega)) ?_)
  refine cn_arr (i := 0) (k := 0) (g := cn_s q) hq h (by omega) rfl rfl (br_t ?_ ?_)
  · rw [nI_add]
    exact congrArg nI (by omega)
  exact cn_L628N hq he hp h P
theorem cn_L499N {post : Int32 → St0 → Prop} {mc ms kc ks : Nat} {fc fb fn fr : Int32} {a1 a2 a3 a4 a5 a6 a7 a8 a9 a10 a11 a12 a13 a14 a15 a16 a17 a18 a19 a20 a21 : Nat → Int32} {q : cn_Q} {p e : Nat} {A : Nat → Int32} {z0 z1 : Int32} (hq : cn_ok q) (he : e = max p 1) (hp : p ≤ 29) (hc : cn_s q + cn_o q + cn_w q ≤ p) (h : cn_I q 3 3 p cn_C1 (cn_BB (cn_s q) (cn_s q + cn_o q + cn_w q) 1 e (e + 0) 31 60 60) (cn_3 false true true true) (cn_3 [] [(0, cn_s q)] [(0, cn_s q + cn_o q)] [(1, 0), (2, 30)]) A (fc, fb, fn, fr, a1, a2, a3, a4, a5, a6, a7, a8, a9, a10, a11, a12, a13, a14, a15, a16, a17, a18, a19, a20, a21)) (P : post 1 ()) (hz : z1 = z0) : wL_lawOf_499 post mc ms (nI (cn_a q)) (nI (cn_b q)) (nI (cn_v q)) (nI (cn_o q)) (nI (cn_s q)) (nI (6 * cn_a q + cn_b q)) (nI p) (nI 0) (nI 0) z0 z1 kc ks fc fb fn fr a1 a2 a3 a4 a5 a6 a7 a8 a9 a10 a11 a12 a13 a14 a15 a16 a17 a18 a19 a20 a21 := by
  unfold wL_lawOf_499
  refine br_t hz (pk_le p 1 (fun z => ?_) (fun z => ?_))
  · exact cn_L516N hq he hp hc h P (show nI 1 = nI e from congrArg nI (by omega))
  · exact cn_L516N hq he hp hc h P (congrArg nI (by omega))
theorem cn_L439N {post : Int32 → St0 → Prop} {mc ms kc ks : Nat} {fc fb fn fr : Int32} {a1 a2 a3 a4 a5 a6 a7 a8 a9 a10 a11 a12 a13 a14 a15 a16 a17 a18 a19 a20 a21 : Nat → Int32} {q : cn_Q} {p e : Nat} {A : Nat → Int32} (hq : cn_ok q) (he : e = max p 1) (hp : p ≤ 29) (hc : cn_s q + cn_o q + cn_w q ≤ p) (h : cn_I q 3 3 p cn_C0 (cn_BB (cn_s q) (cn_s q + cn_o q + cn_w q) 1 0 0 31 60 60) (cn_3 false true true true) (cn_3 [] [(0, cn_s q)] [(0, cn_s q + cn_o q)] [(1, 0), (2, 30)]) A (fc, fb, fn, fr, a1, a2, a3, a4, a5, a6, a7, a8, a9, a10, a11, a12, a13, a14, a15, a16, a17, a18, a19, a20, a21)) (P : post 1 ()) : wL_lawOf_439 post mc ms (nI (cn_a q)) (nI (cn_b q)) (nI (cn_v q)) (nI (cn_o q)) (nI (cn_s q)) (nI (6 * cn_a q + cn_b q)) (nI p) 0 0 kc ks fc fb fn fr a1 a2 a3 a4 a5 a6 a7 a8 a9 a10 a11 a12 a13 a14 a15 a16 a17 a18 a19 a20 a21 := by
  have hok := hq
  obtain ⟨q1, q2, q3, q4, q5, q6, q7, q8, q9, q10, q11⟩ := hok
  have t20 := cn_tz hq 2 0 (by omega)
  have t21 := cn_tz hq 2 1 (by omega)
  have t00 : cn_t 0 (cn_z q 0) = cn_o q := cn_t0
  have t01 : cn_t 0 (cn_z q 1) = cn_w q := cn_t0
  have d0 : cn_D 0 = 0 := rfl
  have d2 : cn_D 2 = 3 := rfl
  unfold wL_lawOf_439
  refine cn_Tx0N (e := e) hq hc h (fun A1 u1 h1 => ?_)
  obtain ⟨fc, fb, fn, fr, a1, a2, a3, a4, a5, a6, a7, a8, a9, a10, a11, a12, a13, a14, a15, a16, a17, a18, a19, a20, a21⟩ := u1
  refine br_t rfl (cn_bk0 (k := 0) h1 (by omega) rfl (br_t rfl ?_))
  refine cn_st (i := 0) (k := 0) (g := cn_s q) hq h1 (by omega) rfl rfl (fun z => absurd z (by omega)) (fun _ => br_f (by decide) (br_t rfl ?_))
  refine cn_st (i := 1) (k := 0) (g := cn_s q + cn_o q) hq h1 (by omega) rfl rfl (fun z => absurd z (by omega)) (fun _ => br_f (by decide) ?_)
  exact cn_L499N hq he hp hc h1 P rfl
theorem cn_L398 {post : Int32 → St0 → Prop} {mc ms kc ks : Nat} {fc fb fn fr : Int32} {a1 a2 a3 a4 a5 a6 a7 a8 a9 a10 a11 a12 a13 a14 a15 a16 a17 a18 a19 a20 a21 : Nat → Int32} {q : cn_Q} {M zz : Nat} {A : Nat → Int32} (hq : cn_ok q) (hM : M ≤ 29) (hz : zz < 256) (h : cn_I q 3 3 0 cn_C0 (cn_BB (cn_s q) (cn_s q + cn_o q + cn_w q) 1 0 0 31 60 60) (cn_3 false true true true) (cn_3 [] [(0, cn_s q)] [(0, cn_s q + cn_o q)] [(1, 0), (2, 30)]) A (fc, fb, fn, fr, a1, a2, a3, a4, a5, a6, a7, a8, a9, a10, a11, a12, a13, a14, a15, a16, a17, a18, a19, a20, a21)) (P : post 1 ()) : wL_lawOf_398 post mc ms (nI (cn_a q)) (nI (cn_b q)) (nI (cn_v q)) (nI (cn_o q)) (nI (cn_s q)) (nI (cn_s q + cn_o q + cn_w q)) (nI (6 * cn_a q + cn_b q)) (nI M) (nI zz) kc ks fc fb fn fr a1 a2 a3 a4 a5 a6 a7 a8 a9 a10 a11 a12 a13 a14 a15 a16 a17 a18 a19 a20 a21 := by
  have hok := hq
  obtain ⟨q1, q2, q3, q4, q5, q6, q7, q8, q9, q10, q11⟩ := hok
  unfold wL_lawOf_398
  have hlt : zz % (M + 1) < M + 1 := Nat.mod_lt _ (by omega)
  refine And.intro (by rw [nI_1]; exact nI_ne0 (by omega) (by omega)) (nm_r (e' := nI (zz % (M + 1))) (by rw [nI_1]; exact pk_rem (by omega) (by omega) (by omega)) ?_)
  generalize zz % (M + 1) = p at hlt
  refine cn_pass (x := p) h (by omega) (by omega) (fun u1 h1 => ?_)
  rw [Nat.zero_add] at h1
  obtain ⟨fc, fb, fn, fr, a1, a2, a3, a4, a5, a6, a7, a8, a9, a10, a11, a12, a13, a14, a15, a16, a17, a18, a19, a20, a21⟩ := u1
  refine pk_le (cn_s q + cn_o q) p (fun z => pk_le (cn_s q + cn_o q + cn_w q) p (fun z2 => ?_) (fun z2 => ?_)) (fun z => pk_le (cn_s q + cn_o q + cn_w q) p (fun z2 => absurd z2 (by omega)) (fun z2 => ?_)) (nI_add _ _)
  · exact cn_L439N hq rfl (by omega) z2 h1 P
  · exact cn_L439S hq rfl (by omega) z z2 h1 P
  · exact cn_L439F hq rfl (by omega) z h1 P
end
section
theorem cn_cell {post : Int32 → Prop} {L : Nat} {xs : Nat → Int32} (hL : L ≤ 3) (i : Nat) (hi : i < 3) (K : ∀ v, post v) (x0 : Int32) (e0 : x0 = nI i := by rfl) : wpL_cellAt post L xs () x0 := by
  subst e0
  exact pk_le L i (fun _ => K 0) (fun z => And.intro (pk_in i L z) (K _))
def cn_via (a b : Nat) : Nat → Nat
  | 0 => 0
  | j + 1 => if j = a then cn_via a b j else if j = b then cn_via a b j else j
theorem cn_via6 : ∀ a, a < 6 → ∀ b, b < 6 → a ≠ b → cn_via a b 6 < 6 ∧ a ≠ cn_via a b 6 ∧ cn_via a b 6 ≠ b := by decide +kernel
/-- what reach asks -/
theorem cn_rch {q : cn_Q} (hq : cn_ok q) : cn_sp q (cn_c q cn_C0 (cn_BB (cn_s q) (cn_s q + cn_o q + cn_w q) 0 0 0 30 60 60) 1) 2 (cn_a q) 0 5 = cn_tr q 0 1 1000000 := by
  have t1 : cn_t 1 1 = 1 := rfl
  have d1 : cn_D 1 = 0 := rfl
  have f1 := cn_g1 (q := q) (l0 := cn_s q) (h0 := cn_s q + cn_o q + cn_w q) (z1 := 0) (l1 := 0) (h1 := 0) (h2 := 30) (h3 := 60) (h4 := 60) (z := 1) (r := 0) (g := 0) (by omega) (by omega) (by omega) (fun y h1 h2 => absurd h2 (by omega)) (by omega)
  have c1 := cn_c1 (q := q) (C := cn_C0) (by omega) rfl (by omega) f1
  rw [cn_sp_a2 hq (fun k => cn_c_N) (fun k r => cn_c_le hq) (by omega) (x := 1) (by rw [if_pos (by omega), c1, t1, d1]) 3, cn_f0 (by omega)]
  rfl
theorem cn_L44 {post : Int32 → St0 → Prop} {mc ms kc ks : Nat} {fc fb fn fr : Int32} {a1 a2 a3 a4 a5 a6 a7 a8 a9 a10 a11 a12 a13 a14 a15 a16 a17 a18 a19 a20 a21 : Nat → Int32} {q : cn_Q} {zz f : Nat} {A : Nat → Int32} {x1 x2 : Int32} (hq : cn_ok q) (h : cn_I q 0 0 0 cn_C0 (cn_BB (cn_s q) (cn_s q) 0 0 0 30 60 60) (cn_3 false false false false) (cn_3 [] [] [] []) A (fc, fb, fn, fr, a1, a2, a3, a4, a5, a6, a7, a8, a9, a10, a11, a12, a13, a14, a15, a16, a17, a18, a19, a20, a21)) (P : post 1 ()) (e1 : 1 + ((x1 &&& 255) - (x1 &&& 255) / 9 * 9) = nI (cn_o q)) (e2 : 1 + (((x1 >>> ((8 : Int32) &&& 31)) &&& 255) - ((x1 >>> ((8 : Int32) &&& 31)) &&& 255) / 9 * 9) = nI (cn_w q)) (e3 : (x1 >>> ((16 : Int32) &&& 31)) &&& 15 = nI (cn_s q)) (e4 : x2 &&& 255 = nI zz) (hz : zz < 256) : wL_lawOf_44 post mc ms x1 x2 (nI (cn_a q)) (nI (cn_b q)) kc ks fc fb fn fr a1 a2 a3 a4 a5 a6 a7 a8 a9 a10 a11 a12 a13 a14 a15 a16 a17 a18 a19 a20 a21 (f + 1) (nI (cn_v q)) (nI 6) := by
  have hok := hq
  obtain ⟨q1, q2, q3, q4, q5, q6, q7, q8, q9, q10, q11⟩ := hok
  have t12 := cn_tz hq 1 2 (by omega)
  have t22 := cn_tz hq 2 2 (by omega)
  have d2 : cn_D 2 = 3 := rfl
  refine pk_le 6 6 (fun _ => ?_) (fun z => absurd z (by omega))
  refine And.intro (by decide) (nm_r e1 (And.intro (by decide) (nm_r e2 (nm_r e3 (nm_r (e' := nI (cn_s q + cn_o q + cn_w q)) (by rw [nI_add, nI_add]) (nm_r (cn_e6v _ _) ?_))))))
  refine cn_contact hq h (by omega) (fun post u h K => ⟨1, cn_rt_x h (K u h)⟩) (fun u1 h1 => ?_) rfl (cn_ix _ _) rfl
  obtain ⟨fc, fb, fn, fr, a1, a2, a3, a4, a5, a6, a7, a8, a9, a10, a11, a12, a13, a14, a15, a16, a17, a18, a19, a20, a21⟩ := u1
  refine br_t rfl ?_
  refine cn_Ts0 hq h1 (fun u2 h2 => ?_) rfl rfl rfl
  obtain ⟨fc, fb, fn, fr, a1, a2, a3, a4, a5, a6, a7, a8, a9, a10, a11, a12, a13, a14, a15, a16, a17, a18, a19, a20, a21⟩ := u2
  refine br_t rfl ?_
  refine cn_Ts1 hq h2 (fun u3 h3 => ?_) rfl rfl rfl
  obtain ⟨fc, fb, fn, fr, a1, a2, a3, a4, a5, a6, a7, a8, a9, a10, a11, a12, a13, a14, a15, a16, a17, a18, a19, a20, a21⟩ := u3
  refine br_t rfl ?_
  refine cn_Ts2 hq h3 (fun u4 h4 => ?_) rfl rfl rfl
  obtain ⟨fc, fb, fn, fr, a1, a2, a3, a4, a5, a6, a7, a8, a9, a10, a11, a12, a13, a14, a15, a16, a17, a18, a19, a20, a21⟩ := u4
  refine br_t rfl ?_
  refine cn_st0 (i := 2) h4 (by omega) rfl (br_t rfl ?_)
  refine cn_hopw (i := 0) (j := 0) (k := 0) (g := cn_s q) h4 (by omega) rfl (br_t (congrArg nI (by omega)) ?_)
  refine cn_hopw (i := 1) (j := 0) (k := 0) (g := cn_s q + cn_o q) h4 (by omega) rfl (br_t ?_ ?_)
  · rw [nI_add]
    exact congrArg nI (by omega)
  refine cn_bkz h4 (by omega) rfl (by omega) (by omega) (br_t ?_ ?_)
  · rw [nI_add]
    exact congrArg nI (by omega)
  refine cn_quote (nd := cn_a q) (tg := cn_b q) (z := 1) hq h4 q1 q3 q5 (by omega) 1000000 (cn_spA0 hq (by omega) (by omega) (cn_f0 (by omega))) (fun z => absurd z (by omega)) (fun _ u5 h5 => ?_)
  obtain ⟨fc, fb, fn, fr, a1, a2, a3, a4, a5, a6, a7, a8, a9, a10, a11, a12, a13, a14, a15, a16, a17, a18, a19, a20, a21⟩ := u5
  refine br_t rfl ?_
  refine cn_Tc1 hq h5 (fun u6 h6 => ?_) (cn_e6v _ _) rfl rfl
  obtain ⟨fc, fb, fn, fr, a1, a2, a3, a4, a5, a6, a7, a8, a9, a10, a11, a12, a13, a14, a15, a16, a17, a18, a19, a20, a21⟩ := u6
  refine br_t rfl ?_
  refine cn_st0 (i := 2) h6 (by omega) rfl (br_t rfl ?_)
  refine cn_reach hq h6 (cn_rch hq) (by omega) (by omega) (fun u7 h7 => ?_)
  obtain ⟨fc, fb, fn, fr, a1, a2, a3, a4, a5, a6, a7, a8, a9, a10, a11, a12, a13, a14, a15, a16, a17, a18, a19, a20, a21⟩ := u7
  refine br_t rfl ?_
  refine cn_Tc2 hq h7 (fun u8 h8 => ?_) (cn_e6v _ _) rfl rfl
  obtain ⟨fc, fb, fn, fr, a1, a2, a3, a4, a5, a6, a7, a8, a9, a10, a11, a12, a13, a14, a15, a16, a17, a18, a19, a20, a21⟩ := u8
  refine br_t rfl ?_
  refine cn_st (i := 2) (k := 2) (g := 30) hq h8 (by omega) rfl rfl (fun _ => br_t rfl ?_) (fun z => absurd z (by omega))
  refine cn_arr (i := 2) (k := 2) (g := 30) hq h8 (by omega) rfl rfl (br_t (by rw [t22]; rfl) ?_)
  refine cn_hops (i := 2) h8 (by omega) (br_t rfl ?_)
  refine cn_hopw (i := 2) (j := 0) (k := 1) (g := 0) h8 (by omega) rfl (br_t rfl ?_)
  refine cn_hopw (i := 2) (j := 1) (k := 2) (g := 30) h8 (by omega) rfl (br_t rfl ?_)
  rw [e4]
  refine pk_le 29 (cn_s q + cn_o q + cn_w q) (fun z => ?_) (fun z => ?_)
  · exact cn_L398 (M := 29) hq (by omega) hz h8 P
  · exact cn_L398 (M := cn_s q + cn_o q + cn_w q) hq (by omega) hz h8 P
theorem cn_L44l {post : Int32 → St0 → Prop} {mc ms kc ks : Nat} {fc fb fn fr : Int32} {a1 a2 a3 a4 a5 a6 a7 a8 a9 a10 a11 a12 a13 a14 a15 a16 a17 a18 a19 a20 a21 : Nat → Int32} {a b : Nat} {x1 x2 : Int32} (ha : a < 6) (hb : b < 6) (K : wL_lawOf_44 post mc ms x1 x2 (nI a) (nI b) kc ks fc fb fn fr a1 a2 a3 a4 a5 a6 a7 a8 a9 a10 a11 a12 a13 a14 a15 a16 a17 a18 a19 a20 a21 1 (nI (cn_via a b 6)) (nI 6)) : ∀ f j, j ≤ 6 → f = 6 - j → wL_lawOf_44 post mc ms x1 x2 (nI a) (nI b) kc ks fc fb fn fr a1 a2 a3 a4 a5 a6 a7 a8 a9 a10 a11 a12 a13 a14 a15 a16 a17 a18 a19 a20 a21 (f + 1) (nI (cn_via a b j)) (nI j) := by
  intro f
  induction f with
  | zero =>
    intro j hj hf
    have e : j = 6 := by omega
    subst e
    exact K
  | succ f ih =>
    intro j hj hf
    have hr := ih (j + 1) (by omega) (by omega)
    have hv : cn_via a b (j + 1) = if j = a then cn_via a b j else if j = b then cn_via a b j else j := rfl
    refine pk_le 6 j (fun z => absurd z (by omega)) (fun _ => pk_eq j a (fun e => nm_r (nI_1 j) ?_) (fun e => pk_eq j b (fun e2 => nm_r (nI_1 j) ?_) (fun e2 => nm_r (nI_1 j) ?_)))
    · rw [hv, if_pos e] at hr
      exact hr
    · rw [hv, if_neg e, if_pos e2] at hr
      exact hr
    · rw [hv, if_neg e, if_neg e2] at hr
      exact hr
theorem cn_init {post : St2 → Prop} (K : post (0, 0, 0, 0, fun _ => 0, fun _ => 0, fun _ => 0, fun _ => 0, fun _ => 0, fun _ => 0, fun _ => 0, fun _ => 0, fun _ => 0, fun _ => 0, fun _ => 0, fun _ => 0, fun _ => 0, fun _ => 0, fun _ => 0, fun _ => 0, fun _ => 0, fun _ => 0, fun _ => 0, fun _ => 0, fun _ => 0)) : wpX_init post 100 10000 (0, 0, 0, 0) := by
  unfold wpX_init
  exact ⟨by omega, by omega, by omega, by omega, by omega, by omega, by omega, by omega, by omega, by omega, by omega, by omega, by omega, by omega, by omega, by omega, by omega, by omega, by omega, by omega, by omega, by omega, by omega, by omega, by omega, by omega, by omega, by omega, by omega, by omega, by omega, by omega, by omega, by omega, by omega, by omega, by omega, by omega, by omega, by omega, by omega, by omega, K⟩
theorem cn_I0 {q : cn_Q} : cn_I q 0 0 0 cn_C0 (cn_BB (cn_s q) (cn_s q) 0 0 0 30 60 60) (cn_3 false false false false) (cn_3 [] [] [] []) (fun _ => 0) (0, 0, 0, 0, fun _ => 0, fun _ => 0, fun _ => 0, fun _ => 0, fun _ => 0, fun _ => 0, fun _ => 0, fun _ => 0, fun _ => 0, fun _ => 0, fun _ => 0, fun _ => 0, fun _ => 0, fun _ => 0, fun _ => 0, fun _ => 0, fun _ => 0, fun _ => 0, fun _ => 0, fun _ => 0, fun _ => 0) := by
  refine ⟨rfl, rfl, rfl, by omega, rfl, ⟨by omega, fun k hk => rfl, fun k hk => absurd hk (by omega), fun k t hk ht => Or.inl ⟨rfl, ?_⟩⟩, ⟨by omega, fun i hi => ?_, fun i hi => absurd hi (by omega)⟩⟩
  · unfold cn_BB
    omega
  · rcases (show i = 0 ∨ i = 1 ∨ i = 2 by omega) with e | e | e <;> subst e <;> rfl
theorem cn_lawQ {post : Int32 → St0 → Prop} {mc ms kc ks : Nat} {p1 p2 : Int32} {a b : Nat} (P : post 1 ()) (ha : a < 6) (hb : b < 6) (hab : a ≠ b) : wL_lawOf_44 post mc ms p1 p2 (nI a) (nI b) kc ks 0 0 0 0 (fun _ => 0) (fun _ => 0) (fun _ => 0) (fun _ => 0) (fun _ => 0) (fun _ => 0) (fun _ => 0) (fun _ => 0) (fun _ => 0) (fun _ => 0) (fun _ => 0) (fun _ => 0) (fun _ => 0) (fun _ => 0) (fun _ => 0) (fun _ => 0) (fun _ => 0) (fun _ => 0) (fun _ => 0) (fun _ => 0) (fun _ => 0) 7 (nI 0) (nI 0) := by
  obtain ⟨k1, hk1, ek1⟩ := pk_andE p1 (m := 255) 8 (by decide)
  obtain ⟨k2, hk2, ek2⟩ := pk_andE (p1 >>> ((8 : Int32) &&& 31)) (m := 255) 8 (by decide)
  obtain ⟨k3, hk3, ek3⟩ := pk_andE (p1 >>> ((16 : Int32) &&& 31)) (m := 15) 4 (by decide)
  obtain ⟨zz, hzz, ezz⟩ := pk_andE p2 (m := 255) 8 (by decide)
  have m3 : k1 % 9 < 9 := Nat.mod_lt _ (by omega)
  have m4 : k2 % 9 < 9 := Nat.mod_lt _ (by omega)
  have k3' : k3 < 16 := hk3
  have zz' : zz < 256 := hzz
  have k1' : k1 < 256 := hk1
  have k2' : k2 < 256 := hk2
  obtain ⟨v1, v2, v3⟩ := cn_via6 _ ha _ hb hab
  refine cn_L44l ha hb ?_ 6 0 (by omega) (by omega)
  have hq : cn_ok (a, cn_via a b 6, b, k3, 1 + k1 % 9, 1 + k2 % 9) :=
    ⟨ha, v1, hb, v2, hab, v3, k3', show 1 ≤ 1 + k1 % 9 by omega, show 1 + k1 % 9 ≤ 9 by omega, show 1 ≤ 1 + k2 % 9 by omega, show 1 + k2 % 9 ≤ 9 by omega⟩
  refine cn_L44 (q := (a, cn_via a b 6, b, k3, 1 + k1 % 9, 1 + k2 % 9)) (zz := zz) (A := fun _ => 0) hq cn_I0 P ?_ ?_ ek3 ezz zz'
  · rw [ek1, show nI k1 - nI k1 / 9 * 9 = nI (k1 % 9) from pk_rem (d := 9) (by omega) (by omega) (by omega), show (1 : Int32) = nI 1 from rfl, nI_add]
    rfl
  · rw [ek2, show nI k2 - nI k2 / 9 * 9 = nI (k2 % 9) from pk_rem (d := 9) (by omega) (by omega) (by omega), show (1 : Int32) = nI 1 from rfl, nI_add]
    rfl
theorem cn_lawOf {post : Int32 → St0 → Prop} {p0 p1 p2 : Int32} (P : post 1 ()) : wpL_lawOf post 1000 20000 () p0 p1 p2 := by
  obtain ⟨j1, hj1, ej1⟩ := pk_andE p0 (m := 255) 8 (by decide)
  obtain ⟨j2, hj2, ej2⟩ := pk_andE (p0 >>> ((8 : Int32) &&& 31)) (m := 255) 8 (by decide)
  have j1' : j1 < 256 := hj1
  have j2' : j2 < 256 := hj2
  have m1 : j1 % 6 < 6 := Nat.mod_lt _ (by omega)
  have m2 : j2 % 5 < 5 := Nat.mod_lt _ (by omega)
  have m5 : (j1 % 6 + 1 + j2 % 5) % 6 < 6 := Nat.mod_lt _ (by omega)
  have m6 : j1 % 6 ≠ (j1 % 6 + 1 + j2 % 5) % 6 := by omega
  have e4 : nI j1 - nI j1 / 6 * 6 = nI (j1 % 6) := pk_rem (d := 6) (by omega) (by omega) (by omega)
  have e5 : nI j2 - nI j2 / 5 * 5 = nI (j2 % 5) := pk_rem (d := 5) (by omega) (by omega) (by omega)
  have e6 : nI (j1 % 6 + 1 + j2 % 5) - nI (j1 % 6 + 1 + j2 % 5) / 6 * 6 = nI ((j1 % 6 + 1 + j2 % 5) % 6) := pk_rem (d := 6) (by omega) (by omega) (by omega)
  unfold wpL_lawOf
  refine And.intro (by omega) (And.intro (by omega) ⟨100, 10000, by omega, by omega, cn_init ?_⟩)
  refine And.intro (by decide) (nm_r (e' := nI (j1 % 6)) (by rw [ej1, e4]) (And.intro (by decide) (And.intro (by decide) (nm_r (e' := nI ((j1 % 6 + 1 + j2 % 5) % 6)) (by rw [ej2, e5, nI_1, nI_add, e6]) ⟨7, ?_⟩))))
  exact cn_lawQ P m1 m5 m6
theorem i_vc (xs : Nat → Int32) (L : Nat) (hL : L ≤ 3) : wpL_law (fun r => r = 1) L xs := by
  unfold wpL_law
  refine cn_cell hL 0 (by omega) (fun r1 => cn_cell hL 1 (by omega) (fun r2 => cn_cell hL 2 (by omega) (fun r3 => ⟨1000, 20000, by omega, by omega, ?_⟩) _) _) _
  exact cn_lawOf rfl
end
