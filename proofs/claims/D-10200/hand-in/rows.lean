section
/-! numbers mod 997, rows of them, spans, a basis in steps, words by codes -/
abbrev ww_F : Type := Fin 997
abbrev ww_V : Type := Nat → ww_F
/-- a sum of the first n -/
def ww_ps (f : Nat → ww_F) : Nat → ww_F
  | 0 => 0
  | n + 1 => ww_ps f n + f n
theorem ww_ps_lin {f g h : Nat → ww_F} {c : ww_F} (hf : ∀ k, h k = f k + c * g k) (n : Nat) : ww_ps h n = ww_ps f n + c * ww_ps g n := by
  induction n with
  | zero =>
    show (0 : ww_F) = 0 + c * 0
    grind
  | succ n ih =>
    show ww_ps h n + h n = (ww_ps f n + f n) + c * (ww_ps g n + g n)
    rw [ih, hf n]
    grind
theorem ww_ps_cg {f g : Nat → ww_F} (n : Nat) (h : ∀ k, k < n → f k = g k) : ww_ps f n = ww_ps g n := by
  induction n with
  | zero => rfl
  | succ n ih =>
    show ww_ps f n + f n = ww_ps g n + g n
    rw [ih (fun k hk => h k (by omega)), h n (by omega)]
theorem ww_ps_0 {f : Nat → ww_F} (n : Nat) (h : ∀ k, k < n → f k = 0) : ww_ps f n = 0 := by
  induction n with
  | zero => rfl
  | succ n ih =>
    show ww_ps f n + f n = 0
    rw [ih (fun k hk => h k (by omega)), h n (by omega)]
    grind
theorem ww_ps4 (f : Nat → ww_F) : ww_ps f 4 = f 0 + f 1 + f 2 + f 3 := by
  show 0 + f 0 + f 1 + f 2 + f 3 = f 0 + f 1 + f 2 + f 3
  grind
theorem ww_ps8 (f : Nat → ww_F) : ww_ps f 8 = f 0 + f 1 + f 2 + f 3 + f 4 + f 5 + f 6 + f 7 := by
  show 0 + f 0 + f 1 + f 2 + f 3 + f 4 + f 5 + f 6 + f 7 = f 0 + f 1 + f 2 + f 3 + f 4 + f 5 + f 6 + f 7
  grind
theorem ww_10 : (1 : ww_F) ≠ 0 := by decide
/-- one place of a table of any kind -/
def ww_up {α : Type} (f : Nat → α) (n : Nat) (x : α) : Nat → α := fun j => if j = n then x else f j
theorem ww_us {α : Type} {f : Nat → α} {n : Nat} {x : α} : ww_up f n x n = x := if_pos rfl
theorem ww_un {α : Type} {f : Nat → α} {n j : Nat} {x : α} (h : j ≠ n) : ww_up f n x j = f j := if_neg h
/-- pigeons: n different numbers below D -/
theorem ww_php : ∀ (D n : Nat) (f : Nat → Nat), (∀ i, i < n → f i < D) → (∀ i j, i < j → j < n → f i ≠ f j) → n ≤ D := by
  intro D
  induction D with
  | zero =>
    intro n f h _
    rcases Nat.eq_zero_or_pos n with z | z
    · omega
    · exact absurd (h 0 z) (by omega)
  | succ D ih =>
    intro n f h hi
    by_cases he : ∃ i, i < n ∧ f i = D
    · obtain ⟨i0, h0, e0⟩ := he
      have key : n - 1 ≤ D := by
        refine ih (n - 1) (fun i => if i < i0 then f i else f (i + 1)) ?_ ?_
        · intro i hin
          by_cases c : i < i0
          · show (if i < i0 then f i else f (i + 1)) < D
            rw [if_pos c]
            have a := h i (by omega)
            have b := hi i i0 c h0
            omega
          · show (if i < i0 then f i else f (i + 1)) < D
            rw [if_neg c]
            have a := h (i + 1) (by omega)
            have b := hi i0 (i + 1) (by omega) (by omega)
            omega
        · intro i j hij hj
          show (if i < i0 then f i else f (i + 1)) ≠ (if j < i0 then f j else f (j + 1))
          by_cases c : i < i0
          · by_cases d : j < i0
            · rw [if_pos c, if_pos d]
              exact hi i j hij (by omega)
            · rw [if_pos c, if_neg d]
              exact hi i (j + 1) (by omega) (by omega)
          · rw [if_neg c, if_neg (by omega)]
            exact hi (i + 1) (j + 1) (by omega) (by omega)
      omega
    · have key : n ≤ D := by
        refine ih n f ?_ hi
        intro i hin
        have a := h i hin
        rcases Nat.lt_or_ge (f i) D with z | z
        · exact z
        · exact absurd ⟨i, hin, by omega⟩ he
      omega
/-- v is a combination of X 0 .. X (n-1), said by closed sets -/
def ww_Sp (n : Nat) (X : Nat → ww_V) (v : ww_V) : Prop :=
  ∀ Q : ww_V → Prop, Q (fun _ => 0) → (∀ (u w : ww_V) (c : ww_F), Q u → Q w → Q (fun k => u k + c * w k)) → (∀ i, i < n → Q (X i)) → Q v
theorem ww_Sp0 {n : Nat} {X : Nat → ww_V} : ww_Sp n X (fun _ => 0) := fun _ h _ _ => h
theorem ww_Spc {n : Nat} {X : Nat → ww_V} {u w : ww_V} (c : ww_F) (hu : ww_Sp n X u) (hw : ww_Sp n X w) : ww_Sp n X (fun k => u k + c * w k) :=
  fun Q h0 hc hX => hc u w c (hu Q h0 hc hX) (hw Q h0 hc hX)
theorem ww_Spx {n : Nat} {X : Nat → ww_V} {i : Nat} (h : i < n) : ww_Sp n X (X i) := fun _ _ _ hX => hX i h
theorem ww_Spm {n m : Nat} {X Y : Nat → ww_V} {v : ww_V} (h : ww_Sp n X v) (hx : ∀ i, i < n → ww_Sp m Y (X i)) : ww_Sp m Y v :=
  h (ww_Sp m Y) ww_Sp0 (fun _ _ c hu hw => ww_Spc c hu hw) hx
theorem ww_Spup {n : Nat} {X : Nat → ww_V} {v w : ww_V} (h : ww_Sp n X v) : ww_Sp (n + 1) (ww_up X n w) v :=
  ww_Spm h (fun i hi => by
    have e : ww_up X n w i = X i := ww_un (by omega)
    rw [← e]
    exact ww_Spx (by omega))
theorem ww_Spn {n : Nat} {X : Nat → ww_V} {w : ww_V} : ww_Sp (n + 1) (ww_up X n w) w := by
  have e : ww_up X n w n = w := ww_us
  have h : ww_Sp (n + 1) (ww_up X n w) (ww_up X n w n) := ww_Spx (by omega)
  rw [e] at h
  exact h
/-- a linear map, a linear form -/
def ww_lin (T : ww_V → ww_V) : Prop := ∀ (u w : ww_V) (c : ww_F), T (fun k => u k + c * w k) = fun k => T u k + c * T w k
def ww_frm (E : ww_V → ww_F) : Prop := ∀ (u w : ww_V) (c : ww_F), E (fun k => u k + c * w k) = E u + c * E w
theorem ww_frm0 {E : ww_V → ww_F} (h : ww_frm E) : E (fun _ => 0) = 0 := by
  have a := h (fun _ => 0) (fun _ => 0) (-1)
  have e : (fun _ : Nat => (0 : ww_F) + (-1) * 0) = fun _ => 0 := by
    funext k
    grind
  have b : E (fun _ => 0) = E (fun _ => 0) + (-1) * E (fun _ => 0) := by
    rw [e] at a
    exact a
  rw [b]
  grind
theorem ww_lin0 {T : ww_V → ww_V} (h : ww_lin T) : T (fun _ => 0) = fun _ => 0 := by
  have a := h (fun _ => 0) (fun _ => 0) (-1)
  have e : (fun _ : Nat => (0 : ww_F) + (-1) * 0) = fun _ => 0 := by
    funext k
    grind
  have b : T (fun _ => 0) = fun k => T (fun _ => 0) k + (-1) * T (fun _ => 0) k := by
    rw [e] at a
    exact a
  rw [b]
  funext k
  grind
theorem ww_Spf {n : Nat} {X : Nat → ww_V} {v : ww_V} {E : ww_V → ww_F} (hE : ww_frm E) (h : ww_Sp n X v) (hx : ∀ i, i < n → E (X i) = 0) : E v = 0 :=
  h (fun u => E u = 0) (ww_frm0 hE) (fun u w c hu hw => by
    show E (fun k => u k + c * w k) = 0
    rw [hE u w c, hu, hw]
    grind) hx
theorem ww_Spt {n m : Nat} {X Y : Nat → ww_V} {v : ww_V} {T : ww_V → ww_V} (hT : ww_lin T) (h : ww_Sp n X v) (hx : ∀ i, i < n → ww_Sp m Y (T (X i))) : ww_Sp m Y (T v) :=
  h (fun u => ww_Sp m Y (T u)) (by
    show ww_Sp m Y (T (fun _ => 0))
    rw [ww_lin0 hT]
    exact ww_Sp0) (fun u w c hu hw => by
    show ww_Sp m Y (T (fun k => u k + c * w k))
    rw [hT u w c]
    exact ww_Spc c hu hw) hx
/-- v, reduced by the first b rows -/
def ww_rd (R : Nat → ww_V) (pv : Nat → Nat) (v : ww_V) : Nat → ww_V
  | 0 => v
  | b + 1 => fun k => ww_rd R pv v b k - ww_rd R pv v b (pv b) * R b k
theorem ww_rd_cg {R R' : Nat → ww_V} {pv pv' : Nat → Nat} (v : ww_V) (n : Nat) (h : ∀ b, b < n → R b = R' b ∧ pv b = pv' b) : ww_rd R pv v n = ww_rd R' pv' v n := by
  induction n with
  | zero => rfl
  | succ n ih =>
    funext k
    show ww_rd R pv v n k - ww_rd R pv v n (pv n) * R n k = ww_rd R' pv' v n k - ww_rd R' pv' v n (pv' n) * R' n k
    rw [ih (fun b hb => h b (by omega)), (h n (by omega)).1, (h n (by omega)).2]
/-- a basis: n rows R, their pivots, the rows X that they came from; all rows end before D -/
def ww_Bs (D n : Nat) (R X : Nat → ww_V) (pv : Nat → Nat) : Prop :=
  ∀ b, b < n → pv b < D ∧ R b (pv b) = 1 ∧ (∀ c, c < b → R b (pv c) = 0) ∧ (∀ k, D ≤ k → R b k = 0) ∧ (∀ k, D ≤ k → X b k = 0) ∧ ww_Sp n X (R b)
theorem ww_Bs0 {D : Nat} {R X : Nat → ww_V} {pv : Nat → Nat} : ww_Bs D 0 R X pv := fun b h => absurd h (by omega)
theorem ww_Bs_inj {D n : Nat} {R X : Nat → ww_V} {pv : Nat → Nat} (h : ww_Bs D n R X pv) {i j : Nat} (hij : i < j) (hj : j < n) : pv i ≠ pv j := by
  intro e
  obtain ⟨_, h1, h2, _⟩ := h j hj
  have a := h2 i hij
  rw [e, h1] at a
  exact ww_10 a
theorem ww_Bs_le {D n : Nat} {R X : Nat → ww_V} {pv : Nat → Nat} (h : ww_Bs D n R X pv) : n ≤ D :=
  ww_php D n pv (fun i hi => (h i hi).1) (fun _ _ hij hj => ww_Bs_inj h hij hj)
theorem ww_rd_piv {D n : Nat} {R X : Nat → ww_V} {pv : Nat → Nat} (h : ww_Bs D n R X pv) (v : ww_V) : ∀ m, m ≤ n → ∀ b, b < m → ww_rd R pv v m (pv b) = 0 := by
  intro m
  induction m with
  | zero => intro _ b hb; omega
  | succ m ih =>
    intro hm b hb
    show ww_rd R pv v m (pv b) - ww_rd R pv v m (pv m) * R m (pv b) = 0
    obtain ⟨_, h1, h2, _⟩ := h m (by omega)
    by_cases e : b = m
    · rw [e, h1]
      grind
    · rw [ih (by omega) b (by omega), h2 b (by omega)]
      grind
theorem ww_rd_out {D n : Nat} {R X : Nat → ww_V} {pv : Nat → Nat} (h : ww_Bs D n R X pv) {v : ww_V} (hv : ∀ k, D ≤ k → v k = 0) : ∀ m, m ≤ n → ∀ k, D ≤ k → ww_rd R pv v m k = 0 := by
  intro m
  induction m with
  | zero => intro _ k hk; exact hv k hk
  | succ m ih =>
    intro hm k hk
    show ww_rd R pv v m k - ww_rd R pv v m (pv m) * R m k = 0
    obtain ⟨_, _, _, h3, _⟩ := h m (by omega)
    rw [ih (by omega) k hk, h3 k hk]
    grind
/-- v is in a span that holds the rows if what is left of it is, and the other way round -/
theorem ww_rd_sp {n N : Nat} {R X : Nat → ww_V} {pv : Nat → Nat} (h : ∀ b, b < n → ww_Sp N X (R b)) (v : ww_V) : ∀ m, m ≤ n → ww_Sp N X (ww_rd R pv v m) → ww_Sp N X v := by
  intro m
  induction m with
  | zero => intro _ a; exact a
  | succ m ih =>
    intro hm a
    refine ih (by omega) ?_
    have b := ww_Spc (ww_rd R pv v m (pv m)) a (h m (by omega))
    have e : (fun k => ww_rd R pv v (m + 1) k + ww_rd R pv v m (pv m) * R m k) = ww_rd R pv v m := by
      funext k
      show (ww_rd R pv v m k - ww_rd R pv v m (pv m) * R m k) + ww_rd R pv v m (pv m) * R m k = ww_rd R pv v m k
      grind
    rw [e] at b
    exact b
theorem ww_rd_sp2 {n N : Nat} {R X : Nat → ww_V} {pv : Nat → Nat} (h : ∀ b, b < n → ww_Sp N X (R b)) (v : ww_V) (hv : ww_Sp N X v) : ∀ m, m ≤ n → ww_Sp N X (ww_rd R pv v m) := by
  intro m
  induction m with
  | zero => intro _; exact hv
  | succ m ih =>
    intro hm
    have b := ww_Spc (-(ww_rd R pv v m (pv m))) (ih (by omega)) (h m (by omega))
    have e : (fun k => ww_rd R pv v m k + -(ww_rd R pv v m (pv m)) * R m k) = ww_rd R pv v (m + 1) := by
      funext k
      show ww_rd R pv v m k + -(ww_rd R pv v m (pv m)) * R m k = ww_rd R pv v m k - ww_rd R pv v m (pv m) * R m k
      grind
    rw [e] at b
    exact b
theorem ww_Bs_in {D n : Nat} {R X : Nat → ww_V} {pv : Nat → Nat} (h : ww_Bs D n R X pv) {v : ww_V} (hz : ∀ k, ww_rd R pv v n k = 0) : ww_Sp n X v := by
  refine ww_rd_sp (R := R) (pv := pv) (fun b hb => (h b hb).2.2.2.2.2) v n (Nat.le_refl n) ?_
  have e : ww_rd R pv v n = fun _ => 0 := funext hz
  rw [e]
  exact ww_Sp0
/-- a fresh row: the basis with it -/
theorem ww_Bs_add {D n : Nat} {R X : Nat → ww_V} {pv : Nat → Nat} (h : ww_Bs D n R X pv) {v : ww_V} (hv : ∀ k, D ≤ k → v k = 0) {p : Nat} {i : ww_F} (hi : ww_rd R pv v n p * i = 1) :
    ww_Bs D (n + 1) (ww_up R n (fun k => ww_rd R pv v n k * i)) (ww_up X n v) (ww_up pv n p) := by
  intro b hb
  have hp : p < D := by
    rcases Nat.lt_or_ge p D with z | z
    · exact z
    · rw [ww_rd_out h hv n (Nat.le_refl n) p z] at hi
      exact absurd (show (1 : ww_F) = 0 by rw [← hi]; grind) ww_10
  by_cases e : b = n
  · subst e
    rw [ww_us, ww_us, ww_us]
    refine ⟨hp, hi, ?_, ?_, hv, ?_⟩
    · intro c hc
      rw [ww_un (by omega), ww_rd_piv h v b (Nat.le_refl b) c hc]
      grind
    · intro k hk
      show ww_rd R pv v b k * i = 0
      rw [ww_rd_out h hv b (Nat.le_refl b) k hk]
      grind
    · have a : ww_Sp (b + 1) (ww_up X b v) (ww_rd R pv v b) := ww_rd_sp2 (fun c hc => ww_Spup (h c hc).2.2.2.2.2) v ww_Spn b (Nat.le_refl b)
      have c := ww_Spc i (ww_Sp0 (n := b + 1) (X := ww_up X b v)) a
      have e : (fun k => (0 : ww_F) + i * ww_rd R pv v b k) = fun k => ww_rd R pv v b k * i := by
        funext k
        grind
      have c' : ww_Sp (b + 1) (ww_up X b v) (fun k => (0 : ww_F) + i * ww_rd R pv v b k) := c
      rw [e] at c'
      exact c'
  · obtain ⟨h1, h2, h3, h4, h5, h6⟩ := h b (by omega)
    rw [ww_un e, ww_un e, ww_un e]
    refine ⟨h1, h2, ?_, h4, h5, ww_Spup h6⟩
    intro c hc
    rw [ww_un (by omega)]
    exact h3 c hc
end
section
/-! the inverse by squares; rows of words by their codes; a gathering of rows; the product of rows and columns -/
def ww_sq (x : ww_F) : Nat → ww_F
  | 0 => x
  | n + 1 => ww_sq x n * ww_sq x n
def ww_iv (x : ww_F) : Nat → ww_F
  | 0 => 1
  | n + 1 => if 995 / 2 ^ n % 2 = 1 then ww_iv x n * ww_sq x n else ww_iv x n
theorem ww_inv : ∀ x : ww_F, x ≠ 0 → x * ww_iv x 10 = 1 := by decide +kernel
/-- the row of the word with code c (1: the empty word) -/
def ww_rwF (S : ww_V) (T : Nat → ww_V → ww_V) : Nat → Nat → ww_V
  | 0, _ => S
  | n + 1, c => if c ≤ 1 then S else T (c % 2) (ww_rwF S T n (c / 2))
theorem ww_rwF_1 (S : ww_V) (T : Nat → ww_V → ww_V) (n c : Nat) (h : c ≤ 1) : ww_rwF S T n c = S := by
  cases n with
  | zero => rfl
  | succ n =>
    show (if c ≤ 1 then S else T (c % 2) (ww_rwF S T n (c / 2))) = S
    exact if_pos h
theorem ww_rwF_s (S : ww_V) (T : Nat → ww_V → ww_V) (n c : Nat) (h : 1 < c) : ww_rwF S T (n + 1) c = T (c % 2) (ww_rwF S T n (c / 2)) := by
  show (if c ≤ 1 then S else T (c % 2) (ww_rwF S T n (c / 2))) = T (c % 2) (ww_rwF S T n (c / 2))
  exact if_neg (by omega)
theorem ww_rwF_eq (S : ww_V) (T : Nat → ww_V → ww_V) : ∀ n m c, c ≤ n → c ≤ m → ww_rwF S T n c = ww_rwF S T m c := by
  intro n
  induction n with
  | zero => intro m c h _; rw [ww_rwF_1 S T 0 c (by omega), ww_rwF_1 S T m c (by omega)]
  | succ n ih =>
    intro m c h hm
    by_cases e : c ≤ 1
    · rw [ww_rwF_1 S T _ c e, ww_rwF_1 S T _ c e]
    · cases m with
      | zero => omega
      | succ m => rw [ww_rwF_s S T n c (by omega), ww_rwF_s S T m c (by omega), ih m (c / 2) (by omega) (by omega)]
def ww_rw (S : ww_V) (T : Nat → ww_V → ww_V) (c : Nat) : ww_V := ww_rwF S T c c
theorem ww_rw1 (S : ww_V) (T : Nat → ww_V → ww_V) : ww_rw S T 1 = S := ww_rwF_1 S T 1 1 (by omega)
theorem ww_rws (S : ww_V) (T : Nat → ww_V → ww_V) {c l : Nat} (hc : 1 ≤ c) (hl : l < 2) : ww_rw S T (2 * c + l) = T l (ww_rw S T c) := by
  have e1 : (2 * c + l) % 2 = l := by omega
  have e2 : (2 * c + l) / 2 = c := by omega
  show ww_rwF S T (2 * c + l) (2 * c + l) = T l (ww_rwF S T c c)
  rw [ww_rwF_eq S T (2 * c + l) (2 * c + l + 1) (2 * c + l) (by omega) (by omega), ww_rwF_s S T (2 * c + l) (2 * c + l) (by omega), e1, e2, ww_rwF_eq S T (2 * c + l) c c (by omega) (by omega)]
/-- induction over codes -/
theorem ww_cind {P : Nat → Prop} (h1 : P 1) (hs : ∀ c l, 1 ≤ c → l < 2 → P c → P (2 * c + l)) : ∀ c, 1 ≤ c → P c := by
  intro c
  induction c using Nat.strongRecOn with
  | _ c ih =>
    intro hc
    by_cases e : c = 1
    · rw [e]; exact h1
    · have a := hs (c / 2) (c % 2) (by omega) (by omega) (ih (c / 2) (by omega) (by omega))
      have b : 2 * (c / 2) + c % 2 = c := by omega
      rw [b] at a
      exact a
/-- reached from S by the steps T -/
def ww_Rc (S : ww_V) (T : Nat → ww_V → ww_V) (v : ww_V) : Prop := ∀ Z : ww_V → Prop, Z S → (∀ l w, l < 2 → Z w → Z (T l w)) → Z v
/-- a gathering: n rows kept, those below k gone on from by both letters, row k by the letters below l -/
def ww_G (S : ww_V) (T : Nat → ww_V → ww_V) (D n k l : Nat) (R X : Nat → ww_V) (pv : Nat → Nat) : Prop :=
  ww_Bs D n R X pv ∧ ww_Sp n X S ∧ (∀ i j, i < k → j < 2 → ww_Sp n X (T j (X i))) ∧ (∀ j, j < l → ww_Sp n X (T j (X k))) ∧ (∀ i, i < n → ww_Rc S T (X i))
theorem ww_G0 {S : ww_V} {T : Nat → ww_V → ww_V} {D : Nat} {R X : Nat → ww_V} {pv : Nat → Nat} (hz : ∀ k, S k = 0) : ww_G S T D 0 0 0 R X pv := by
  refine ⟨ww_Bs0, ?_, fun i j h _ => absurd h (by omega), fun j h => absurd h (by omega), fun i h => absurd h (by omega)⟩
  have e : S = fun _ => 0 := funext hz
  rw [e]
  exact ww_Sp0
theorem ww_G1 {S : ww_V} {T : Nat → ww_V → ww_V} {D : Nat} {R X : Nat → ww_V} {pv : Nat → Nat} (hS : ∀ k, D ≤ k → S k = 0) {p : Nat} {i : ww_F} (hi : S p * i = 1) :
    ww_G S T D 1 0 0 (ww_up R 0 (fun k => S k * i)) (ww_up X 0 S) (ww_up pv 0 p) := by
  refine ⟨ww_Bs_add (ww_Bs0 (D := D) (R := R) (X := X) (pv := pv)) hS hi, ww_Spn, fun i j h _ => absurd h (by omega), fun j h => absurd h (by omega), fun i h => ?_⟩
  have e : i = 0 := by omega
  rw [e, ww_us]
  exact fun Z h _ => h
theorem ww_G_in {S : ww_V} {T : Nat → ww_V → ww_V} {D n k l : Nat} {R X : Nat → ww_V} {pv : Nat → Nat} (h : ww_G S T D n k l R X pv) (hz : ∀ j, ww_rd R pv (T l (X k)) n j = 0) : ww_G S T D n k (l + 1) R X pv := by
  obtain ⟨h1, h2, h3, h4, h5⟩ := h
  refine ⟨h1, h2, h3, fun j hj => ?_, h5⟩
  by_cases e : j = l
  · rw [e]
    exact ww_Bs_in h1 hz
  · exact h4 j (by omega)
theorem ww_G_add {S : ww_V} {T : Nat → ww_V → ww_V} {D n k l : Nat} {R X : Nat → ww_V} {pv : Nat → Nat} (h : ww_G S T D n k l R X pv) (hT : ∀ j w q, D ≤ q → T j w q = 0) (hk : k < n) (hl : l < 2) {p : Nat} {i : ww_F} (hi : ww_rd R pv (T l (X k)) n p * i = 1) :
    ww_G S T D (n + 1) k (l + 1) (ww_up R n (fun j => ww_rd R pv (T l (X k)) n j * i)) (ww_up X n (T l (X k))) (ww_up pv n p) := by
  obtain ⟨h1, h2, h3, h4, h5⟩ := h
  refine ⟨ww_Bs_add h1 (hT l (X k)) hi, ww_Spup h2, fun a j ha hj => ?_, fun j hj => ?_, fun a ha => ?_⟩
  · rw [ww_un (show a ≠ n by omega)]
    exact ww_Spup (h3 a j ha hj)
  · rw [ww_un (show k ≠ n by omega)]
    by_cases e : j = l
    · rw [e]
      exact ww_Spn
    · exact ww_Spup (h4 j (by omega))
  · by_cases e : a = n
    · rw [e, ww_us]
      exact fun Z z0 zs => zs l (X k) hl (h5 k hk Z z0 zs)
    · rw [ww_un e]
      exact h5 a (by omega)
theorem ww_G_next {S : ww_V} {T : Nat → ww_V → ww_V} {D n k : Nat} {R X : Nat → ww_V} {pv : Nat → Nat} (h : ww_G S T D n k 2 R X pv) : ww_G S T D n (k + 1) 0 R X pv := by
  obtain ⟨h1, h2, h3, h4, h5⟩ := h
  refine ⟨h1, h2, fun i j hi hj => ?_, fun j h => absurd h (by omega), h5⟩
  by_cases e : i = k
  · rw [e]
    exact h4 j hj
  · exact h3 i j (by omega) hj
/-- a gathering that is done holds the rows of all words -/
theorem ww_G_all {S : ww_V} {T : Nat → ww_V → ww_V} {D n : Nat} {R X : Nat → ww_V} {pv : Nat → Nat} (h : ww_G S T D n n 0 R X pv) (hT : ∀ l, l < 2 → ww_lin (T l)) : ∀ c, 1 ≤ c → ww_Sp n X (ww_rw S T c) := by
  obtain ⟨h1, h2, h3, h4, h5⟩ := h
  refine ww_cind ?_ (fun c l hc hl a => ?_)
  · rw [ww_rw1]
    exact h2
  · rw [ww_rws S T hc hl]
    exact ww_Spt (hT l hl) a (fun i hi => h3 i l hi hl)
/-- the codes of the rows kept, and that all of them end in 0 -/
def ww_C (S : ww_V) (T : Nat → ww_V → ww_V) (E : ww_V → ww_F) (n : Nat) (X : Nat → ww_V) (cd : Nat → Nat) : Prop :=
  ∀ i, i < n → X i = ww_rw S T (cd i) ∧ 1 ≤ cd i ∧ cd i < 2 ^ (i + 1) ∧ E (X i) = 0
theorem ww_C0 {S : ww_V} {T : Nat → ww_V → ww_V} {E : ww_V → ww_F} {X : Nat → ww_V} {cd : Nat → Nat} : ww_C S T E 0 X cd := fun i h => absurd h (by omega)
theorem ww_C1 {S : ww_V} {T : Nat → ww_V → ww_V} {E : ww_V → ww_F} {X : Nat → ww_V} {cd : Nat → Nat} (hE : E S = 0) : ww_C S T E 1 (ww_up X 0 S) (ww_up cd 0 1) := by
  intro i h
  have e : i = 0 := by omega
  rw [e, ww_us, ww_us]
  exact ⟨(ww_rw1 S T).symm, by omega, by omega, hE⟩
theorem ww_C_add {S : ww_V} {T : Nat → ww_V → ww_V} {E : ww_V → ww_F} {n k l : Nat} {X : Nat → ww_V} {cd : Nat → Nat} (h : ww_C S T E n X cd) (hk : k < n) (hl : l < 2) (hE : E (T l (X k)) = 0) : ww_C S T E (n + 1) (ww_up X n (T l (X k))) (ww_up cd n (2 * cd k + l)) := by
  intro i hi
  by_cases e : i = n
  · obtain ⟨h1, h2, h3, h4⟩ := h k hk
    rw [e, ww_us, ww_us]
    refine ⟨?_, by omega, ?_, hE⟩
    · rw [ww_rws S T h2 hl, ← h1]
    · have a : 2 ^ (k + 1 + 1) ≤ 2 ^ (n + 1) := Nat.pow_le_pow_right (by omega) (by omega)
      have b : 2 ^ (k + 1 + 1) = 2 ^ (k + 1) * 2 := Nat.pow_succ 2 (k + 1)
      omega
  · rw [ww_un e, ww_un e]
    exact h i (by omega)
/-- what a search answers -/
def ww_Q (S : ww_V) (T : Nat → ww_V → ww_V) (E : ww_V → ww_F) (c : Nat) : Prop :=
  (c = 0 ∧ ∀ d, 1 ≤ d → E (ww_rw S T d) = 0) ∨ (1 ≤ c ∧ c ≤ 255 ∧ E (ww_rw S T c) ≠ 0)
theorem ww_Q_none {S : ww_V} {T : Nat → ww_V → ww_V} {E : ww_V → ww_F} {D n : Nat} {R X : Nat → ww_V} {pv cd : Nat → Nat} (h : ww_G S T D n n 0 R X pv) (hT : ∀ l, l < 2 → ww_lin (T l)) (hE : ww_frm E) (hC : ww_C S T E n X cd) : ww_Q S T E 0 :=
  Or.inl ⟨rfl, fun d hd => ww_Spf hE (ww_G_all h hT d hd) (fun i hi => (hC i hi).2.2.2)⟩
theorem ww_Q_1 {S : ww_V} {T : Nat → ww_V → ww_V} {E : ww_V → ww_F} (h : E S ≠ 0) : ww_Q S T E 1 :=
  Or.inr ⟨by omega, by omega, by rw [ww_rw1]; exact h⟩
theorem ww_Q_found {S : ww_V} {T : Nat → ww_V → ww_V} {E : ww_V → ww_F} {D n k l : Nat} {R X : Nat → ww_V} {pv cd : Nat → Nat} (h : ww_G S T D n k l R X pv) (hT : ∀ j w q, D ≤ q → T j w q = 0) (hE : ww_frm E) (hC : ww_C S T E n X cd) (hk : k < n) (hl : l < 2) (hD : D ≤ 8) (hn : E (T l (X k)) ≠ 0) : ww_Q S T E (2 * cd k + l) ∧ cd k ≤ 127 := by
  obtain ⟨h1, h2, h3, h4, h5⟩ := h
  have hx : ∃ p, ww_rd R pv (T l (X k)) n p ≠ 0 := by
    refine Classical.byContradiction (fun z => hn ?_)
    refine ww_Spf hE (ww_Bs_in h1 (fun j => ?_)) (fun i hi => (hC i hi).2.2.2)
    exact Classical.byContradiction (fun y => z ⟨j, y⟩)
  obtain ⟨p, hp⟩ := hx
  have a := ww_Bs_le (ww_Bs_add h1 (hT l (X k)) (ww_inv _ hp))
  obtain ⟨c1, c2, c3, c4⟩ := hC k hk
  have b : 2 ^ (k + 1) ≤ 2 ^ 7 := Nat.pow_le_pow_right (by omega) (by omega)
  have b' : cd k < 128 := by omega
  refine ⟨Or.inr ⟨by omega, by omega, ?_⟩, by omega⟩
  rw [ww_rws S T c2 hl, ← c1]
  exact hn
/-- the product of a row and a column -/
def ww_ip (u w : ww_V) : ww_F := ww_ps (fun q => u q * w q) 4
theorem ww_ipL (w : ww_V) : ww_frm (fun u => ww_ip u w) := by
  intro u v c
  show ww_ps (fun q => (u q + c * v q) * w q) 4 = ww_ps (fun q => u q * w q) 4 + c * ww_ps (fun q => v q * w q) 4
  exact ww_ps_lin (fun k => by grind) 4
theorem ww_ipR (u : ww_V) : ww_frm (fun w => ww_ip u w) := by
  intro w v c
  show ww_ps (fun q => u q * (w q + c * v q)) 4 = ww_ps (fun q => u q * w q) 4 + c * ww_ps (fun q => u q * v q) 4
  exact ww_ps_lin (fun k => by grind) 4
theorem ww_rank0 {S e : ww_V} {T U : Nat → ww_V → ww_V} {D D' n m : Nat} {R X R' Y : Nat → ww_V} {pv pv' : Nat → Nat} (hG : ww_G S T D n n 0 R X pv) (hT : ∀ l, l < 2 → ww_lin (T l)) (hH : ww_G e U D' m m 0 R' Y pv')
    (adj : ∀ l v w, l < 2 → ww_ip v (U l w) = ww_ip (T l v) w) : (∀ i j, i < n → j < m → ww_ip (X i) (Y j) = 0) ↔ ∀ c, 1 ≤ c → ww_ip (ww_rw S T c) e = 0 := by
  constructor
  · intro h c hc
    refine ww_Spf (E := fun u => ww_ip u e) (ww_ipL e) (ww_G_all hG hT c hc) (fun i hi => ?_)
    exact ww_Spf (E := fun w => ww_ip (X i) w) (ww_ipR (X i)) hH.2.1 (fun j hj => h i j hi hj)
  · intro h i j hi hj
    have a : ∀ c, 1 ≤ c → ww_ip (ww_rw S T c) (Y j) = 0 := by
      refine hH.2.2.2.2 j hj (fun w => ∀ c, 1 ≤ c → ww_ip (ww_rw S T c) w = 0) h (fun l w hl z c hc => ?_)
      rw [adj l _ w hl, ← ww_rws S T hc hl]
      exact z (2 * c + l) (by omega)
    have b : ∃ c, 1 ≤ c ∧ X i = ww_rw S T c := by
      refine hG.2.2.2.2 i hi (fun v => ∃ c, 1 ≤ c ∧ v = ww_rw S T c) ⟨1, by omega, (ww_rw1 S T).symm⟩ (fun l w hl z => ?_)
      obtain ⟨c, hc, e⟩ := z
      exact ⟨2 * c + l, by omega, by rw [e, ww_rws S T hc hl]⟩
    obtain ⟨c, hc, e⟩ := b
    rw [e]
    exact a c hc
end
section
/-! the automata as numbers mod 997: start row, step, end form; a pair is a difference; a mirrored one weighs the same -/
def ww_M (sz : Nat → Nat) (sp : ww_V) (a l p q : Nat) : ww_F := if p < sz a ∧ q < sz a then sp (32 * a + 16 * l + 4 * p + q) else 0
def ww_S (sz : Nat → Nat) (st : ww_V) (m : Nat) (mb : Nat → Nat) (sg : ww_V) : ww_V :=
  fun k => if k < 4 * m ∧ k % 4 < sz (mb (k / 4)) then st (4 * mb (k / 4) + k % 4) * sg (k / 4) else 0
/-- one summand of a step: from place k to place j -/
def ww_t (sz : Nat → Nat) (sp : ww_V) (mb : Nat → Nat) (l : Nat) (v : ww_V) (j k : Nat) : ww_F := if k / 4 = j / 4 then v k * ww_M sz sp (mb (k / 4)) l (k % 4) (j % 4) else 0
def ww_T (sz : Nat → Nat) (sp : ww_V) (m : Nat) (mb : Nat → Nat) (l : Nat) (v : ww_V) : ww_V := fun j => ww_ps (ww_t sz sp mb l v j) (4 * m)
def ww_E (en : ww_V) (m : Nat) (mb : Nat → Nat) (v : ww_V) : ww_F := ww_ps (fun k => v k * en (4 * mb (k / 4) + k % 4)) (4 * m)
theorem ww_T_lin (sz : Nat → Nat) (sp : ww_V) (m : Nat) (mb : Nat → Nat) (l : Nat) : ww_lin (ww_T sz sp m mb l) := by
  intro u w c
  funext j
  show ww_ps (ww_t sz sp mb l (fun k => u k + c * w k) j) (4 * m) = ww_ps (ww_t sz sp mb l u j) (4 * m) + c * ww_ps (ww_t sz sp mb l w j) (4 * m)
  refine ww_ps_lin (fun k => ?_) (4 * m)
  unfold ww_t
  by_cases h : k / 4 = j / 4
  · rw [if_pos h, if_pos h, if_pos h]
    grind
  · rw [if_neg h, if_neg h, if_neg h]
    grind
theorem ww_E_frm (en : ww_V) (m : Nat) (mb : Nat → Nat) : ww_frm (ww_E en m mb) := by
  intro u w c
  show ww_ps (fun k => (u k + c * w k) * en (4 * mb (k / 4) + k % 4)) (4 * m) = ww_ps (fun k => u k * en (4 * mb (k / 4) + k % 4)) (4 * m) + c * ww_ps (fun k => w k * en (4 * mb (k / 4) + k % 4)) (4 * m)
  exact ww_ps_lin (fun k => by grind) (4 * m)
/-- one automaton: nothing stands past its size -/
theorem ww_S_o1 {sz : Nat → Nat} {st sg : ww_V} {mb : Nat → Nat} {k : Nat} (h : sz (mb 0) ≤ k) : ww_S sz st 1 mb sg k = 0 := by
  unfold ww_S
  refine if_neg (fun z => ?_)
  have e : k / 4 = 0 := by omega
  have f : k % 4 = k := by omega
  have g := z.2
  rw [e, f] at g
  omega
theorem ww_T_o1 {sz : Nat → Nat} {sp : ww_V} {mb : Nat → Nat} (l : Nat) (v : ww_V) (j : Nat) (h : sz (mb 0) ≤ j) : ww_T sz sp 1 mb l v j = 0 := by
  refine ww_ps_0 (4 * 1) (fun k hk => ?_)
  unfold ww_t
  by_cases c : k / 4 = j / 4
  · rw [if_pos c]
    have e : k / 4 = 0 := by omega
    have f : j % 4 = j := by omega
    have g : ww_M sz sp (mb (k / 4)) l (k % 4) (j % 4) = 0 := by
      rw [e, f]
      exact if_neg (fun z => absurd z.2 (by omega))
    rw [g]
    grind
  · exact if_neg c
/-- of m of them: nothing past 4 m -/
theorem ww_S_om {sz : Nat → Nat} {st sg : ww_V} {m : Nat} {mb : Nat → Nat} {k : Nat} (h : 4 * m ≤ k) : ww_S sz st m mb sg k = 0 := by
  unfold ww_S
  exact if_neg (fun z => absurd z.1 (by omega))
theorem ww_T_om {sz : Nat → Nat} {sp : ww_V} {m : Nat} {mb : Nat → Nat} (l : Nat) (v : ww_V) (j : Nat) (h : 4 * m ≤ j) : ww_T sz sp m mb l v j = 0 := by
  refine ww_ps_0 (4 * m) (fun k hk => ?_)
  unfold ww_t
  exact if_neg (by omega)
theorem ww_t_on {sz : Nat → Nat} {sp : ww_V} {mb : Nat → Nat} {l : Nat} {v : ww_V} {j k a p q : Nat} (h : k / 4 = j / 4) (ha : mb (k / 4) = a) (hp : k % 4 = p) (hq : j % 4 = q) : ww_t sz sp mb l v j k = v k * ww_M sz sp a l p q := by
  unfold ww_t
  rw [if_pos h, ha, hp, hq]
theorem ww_t_off {sz : Nat → Nat} {sp : ww_V} {mb : Nat → Nat} {l : Nat} {v : ww_V} {j k : Nat} (h : k / 4 ≠ j / 4) : ww_t sz sp mb l v j k = 0 := if_neg h
theorem ww_T1 {sz : Nat → Nat} {sp : ww_V} {a l : Nat} {v : ww_V} {q : Nat} (hq : q < 4) :
    ww_T sz sp 1 (fun _ => a) l v q = v 0 * ww_M sz sp a l 0 q + v 1 * ww_M sz sp a l 1 q + v 2 * ww_M sz sp a l 2 q + v 3 * ww_M sz sp a l 3 q := by
  show ww_ps (ww_t sz sp (fun _ => a) l v q) 4 = _
  rw [ww_ps4, ww_t_on (k := 0) (a := a) (p := 0) (q := q) (by omega) rfl (by omega) (by omega), ww_t_on (k := 1) (a := a) (p := 1) (q := q) (by omega) rfl (by omega) (by omega), ww_t_on (k := 2) (a := a) (p := 2) (q := q) (by omega) rfl (by omega) (by omega), ww_t_on (k := 3) (a := a) (p := 3) (q := q) (by omega) rfl (by omega) (by omega)]
/-- the two of a pair, and their signs -/
def ww_mb2 (a b : Nat) : Nat → Nat := fun i => if i = 0 then a else b
def ww_sg2 : ww_V := fun i => if i = 0 then 1 else -1
theorem ww_T2a {sz : Nat → Nat} {sp : ww_V} {a b l : Nat} {v : ww_V} {q : Nat} (hq : q < 4) :
    ww_T sz sp 2 (ww_mb2 a b) l v q = v 0 * ww_M sz sp a l 0 q + v 1 * ww_M sz sp a l 1 q + v 2 * ww_M sz sp a l 2 q + v 3 * ww_M sz sp a l 3 q := by
  show ww_ps (ww_t sz sp (ww_mb2 a b) l v q) 8 = _
  rw [ww_ps8, ww_t_on (k := 0) (a := a) (p := 0) (q := q) (by omega) rfl (by omega) (by omega), ww_t_on (k := 1) (a := a) (p := 1) (q := q) (by omega) rfl (by omega) (by omega), ww_t_on (k := 2) (a := a) (p := 2) (q := q) (by omega) rfl (by omega) (by omega), ww_t_on (k := 3) (a := a) (p := 3) (q := q) (by omega) rfl (by omega) (by omega),
    ww_t_off (k := 4) (by omega), ww_t_off (k := 5) (by omega), ww_t_off (k := 6) (by omega), ww_t_off (k := 7) (by omega)]
  grind
theorem ww_T2b {sz : Nat → Nat} {sp : ww_V} {a b l : Nat} {v : ww_V} {q : Nat} (hq : q < 4) :
    ww_T sz sp 2 (ww_mb2 a b) l v (4 + q) = v 4 * ww_M sz sp b l 0 q + v 5 * ww_M sz sp b l 1 q + v 6 * ww_M sz sp b l 2 q + v 7 * ww_M sz sp b l 3 q := by
  show ww_ps (ww_t sz sp (ww_mb2 a b) l v (4 + q)) 8 = _
  rw [ww_ps8, ww_t_on (k := 4) (a := b) (p := 0) (q := q) (by omega) rfl (by omega) (by omega), ww_t_on (k := 5) (a := b) (p := 1) (q := q) (by omega) rfl (by omega) (by omega), ww_t_on (k := 6) (a := b) (p := 2) (q := q) (by omega) rfl (by omega) (by omega), ww_t_on (k := 7) (a := b) (p := 3) (q := q) (by omega) rfl (by omega) (by omega),
    ww_t_off (k := 0) (by omega), ww_t_off (k := 1) (by omega), ww_t_off (k := 2) (by omega), ww_t_off (k := 3) (by omega)]
  grind
theorem ww_S1 {sz : Nat → Nat} {st : ww_V} {a q : Nat} (hq : q < 4) : ww_S sz st 1 (fun _ => a) (fun _ => 1) q = if q < sz a then st (4 * a + q) else 0 := by
  have e1 : q / 4 = 0 := by omega
  have e2 : q % 4 = q := by omega
  unfold ww_S
  rw [e2]
  by_cases c : q < sz a
  · rw [if_pos ⟨by omega, c⟩, if_pos c]
    grind
  · rw [if_neg (fun z => c z.2), if_neg c]
theorem ww_S2a {sz : Nat → Nat} {st : ww_V} {a b q : Nat} (hq : q < 4) : ww_S sz st 2 (ww_mb2 a b) ww_sg2 q = if q < sz a then st (4 * a + q) else 0 := by
  have e1 : q / 4 = 0 := by omega
  have e2 : q % 4 = q := by omega
  have e3 : ww_mb2 a b 0 = a := rfl
  have e4 : ww_sg2 0 = 1 := rfl
  unfold ww_S
  rw [e2, e1, e3, e4]
  by_cases c : q < sz a
  · rw [if_pos ⟨by omega, c⟩, if_pos c]
    grind
  · rw [if_neg (fun z => c z.2), if_neg c]
theorem ww_S2b {sz : Nat → Nat} {st : ww_V} {a b q : Nat} (hq : q < 4) : ww_S sz st 2 (ww_mb2 a b) ww_sg2 (4 + q) = -(if q < sz b then st (4 * b + q) else 0) := by
  have e1 : (4 + q) / 4 = 1 := by omega
  have e2 : (4 + q) % 4 = q := by omega
  have e3 : ww_mb2 a b 1 = b := rfl
  have e4 : ww_sg2 1 = -1 := rfl
  unfold ww_S
  rw [e2, e1, e3, e4]
  by_cases c : q < sz b
  · rw [if_pos ⟨by omega, c⟩, if_pos c]
    grind
  · rw [if_neg (fun z => c z.2), if_neg c]
    grind
/-- rows and weights of one automaton, rows of a pair -/
def ww_Ra (sz : Nat → Nat) (st sp : ww_V) (a c : Nat) : ww_V := ww_rw (ww_S sz st 1 (fun _ => a) (fun _ => 1)) (ww_T sz sp 1 (fun _ => a)) c
def ww_W (sz : Nat → Nat) (st en sp : ww_V) (a c : Nat) : ww_F := ww_E en 1 (fun _ => a) (ww_Ra sz st sp a c)
def ww_Rp (sz : Nat → Nat) (st sp : ww_V) (a b c : Nat) : ww_V := ww_rw (ww_S sz st 2 (ww_mb2 a b) ww_sg2) (ww_T sz sp 2 (ww_mb2 a b)) c
theorem ww_Ra_s {sz : Nat → Nat} {st sp : ww_V} {a c l q : Nat} (hc : 1 ≤ c) (hl : l < 2) (hq : q < 4) : ww_Ra sz st sp a (2 * c + l) q = ww_Ra sz st sp a c 0 * ww_M sz sp a l 0 q + ww_Ra sz st sp a c 1 * ww_M sz sp a l 1 q + ww_Ra sz st sp a c 2 * ww_M sz sp a l 2 q + ww_Ra sz st sp a c 3 * ww_M sz sp a l 3 q := by
  unfold ww_Ra
  rw [ww_rws _ _ hc hl, ww_T1 hq]
theorem ww_Ra_1 {sz : Nat → Nat} {st sp : ww_V} {a q : Nat} (hq : q < 4) : ww_Ra sz st sp a 1 q = if q < sz a then st (4 * a + q) else 0 := by
  unfold ww_Ra
  rw [ww_rw1, ww_S1 hq]
theorem ww_Ra_o {sz : Nat → Nat} {st sp : ww_V} {a : Nat} : ∀ c, 1 ≤ c → ∀ q, sz a ≤ q → ww_Ra sz st sp a c q = 0 := by
  refine ww_cind ?_ (fun c l hc hl _ => ?_)
  · intro q hq
    unfold ww_Ra
    rw [ww_rw1]
    exact ww_S_o1 (mb := fun _ => a) hq
  · intro q hq
    unfold ww_Ra
    rw [ww_rws _ _ hc hl]
    exact ww_T_o1 (mb := fun _ => a) l _ q hq
theorem ww_Rp_eq {sz : Nat → Nat} {st sp : ww_V} {a b : Nat} : ∀ c, 1 ≤ c → ∀ q, q < 4 → ww_Rp sz st sp a b c q = ww_Ra sz st sp a c q ∧ ww_Rp sz st sp a b c (4 + q) = -ww_Ra sz st sp b c q := by
  refine ww_cind ?_ (fun c l hc hl ih => ?_)
  · intro q hq
    rw [ww_Ra_1 hq, ww_Ra_1 hq]
    unfold ww_Rp
    rw [ww_rw1, ww_S2a hq, ww_S2b hq]
    exact ⟨rfl, rfl⟩
  · intro q hq
    have h0 := ih 0 (by omega)
    have h1 := ih 1 (by omega)
    have h2 := ih 2 (by omega)
    have h3 := ih 3 (by omega)
    rw [ww_Ra_s hc hl hq, ww_Ra_s hc hl hq]
    unfold ww_Rp at h0 h1 h2 h3 ⊢
    rw [ww_rws _ _ hc hl, ww_T2a hq, ww_T2b hq, h0.1, h1.1, h2.1, h3.1]
    refine ⟨rfl, ?_⟩
    have g0 := h0.2
    have g1 := h1.2
    have g2 := h2.2
    have g3 := h3.2
    rw [show 4 + 0 = 4 from rfl] at g0
    rw [show 4 + 1 = 5 from rfl] at g1
    rw [show 4 + 2 = 6 from rfl] at g2
    rw [show 4 + 3 = 7 from rfl] at g3
    rw [g0, g1, g2, g3]
    grind
theorem ww_E1 {en : ww_V} {a : Nat} {v : ww_V} : ww_E en 1 (fun _ => a) v = v 0 * en (4 * a) + v 1 * en (4 * a + 1) + v 2 * en (4 * a + 2) + v 3 * en (4 * a + 3) := by
  show ww_ps (fun k => v k * en (4 * a + k % 4)) 4 = _
  rw [ww_ps4]
  rfl
theorem ww_E2 {en : ww_V} {a b : Nat} {v : ww_V} : ww_E en 2 (ww_mb2 a b) v = v 0 * en (4 * a) + v 1 * en (4 * a + 1) + v 2 * en (4 * a + 2) + v 3 * en (4 * a + 3) + v 4 * en (4 * b) + v 5 * en (4 * b + 1) + v 6 * en (4 * b + 2) + v 7 * en (4 * b + 3) := by
  show ww_ps (fun k => v k * en (4 * ww_mb2 a b (k / 4) + k % 4)) 8 = _
  rw [ww_ps8]
  rfl
/-- the pair's end value is the difference of the weights -/
theorem ww_pairE {sz : Nat → Nat} {st en sp : ww_V} {a b c : Nat} (hc : 1 ≤ c) : ww_E en 2 (ww_mb2 a b) (ww_Rp sz st sp a b c) = ww_W sz st en sp a c - ww_W sz st en sp b c := by
  have h0 := ww_Rp_eq (sz := sz) (st := st) (sp := sp) (a := a) (b := b) c hc 0 (by omega)
  have h1 := ww_Rp_eq (sz := sz) (st := st) (sp := sp) (a := a) (b := b) c hc 1 (by omega)
  have h2 := ww_Rp_eq (sz := sz) (st := st) (sp := sp) (a := a) (b := b) c hc 2 (by omega)
  have h3 := ww_Rp_eq (sz := sz) (st := st) (sp := sp) (a := a) (b := b) c hc 3 (by omega)
  have g0 := h0.2
  have g1 := h1.2
  have g2 := h2.2
  have g3 := h3.2
  rw [show 4 + 0 = 4 from rfl] at g0
  rw [show 4 + 1 = 5 from rfl] at g1
  rw [show 4 + 2 = 6 from rfl] at g2
  rw [show 4 + 3 = 7 from rfl] at g3
  unfold ww_W
  rw [ww_E1, ww_E1, ww_E2, h0.1, h1.1, h2.1, h3.1, g0, g1, g2, g3]
  grind
/-- columns: the ends, a step back; a step and a step back fit together -/
def ww_e (sz : Nat → Nat) (en : ww_V) (a : Nat) : ww_V := fun k => if k < sz a then en (4 * a + k) else 0
def ww_U (sz : Nat → Nat) (sp : ww_V) (a l : Nat) (w : ww_V) : ww_V := fun p => ww_ps (fun q => ww_M sz sp a l p q * w q) 4
theorem ww_e_o {sz : Nat → Nat} {en : ww_V} {a k : Nat} (h : sz a ≤ k) : ww_e sz en a k = 0 := if_neg (by omega)
theorem ww_U_o {sz : Nat → Nat} {sp : ww_V} {a : Nat} (l : Nat) (w : ww_V) (k : Nat) (h : sz a ≤ k) : ww_U sz sp a l w k = 0 := by
  refine ww_ps_0 4 (fun q _ => ?_)
  have g : ww_M sz sp a l k q = 0 := if_neg (fun z => absurd z.1 (by omega))
  show ww_M sz sp a l k q * w q = 0
  rw [g]
  grind
theorem ww_adj {sz : Nat → Nat} {sp : ww_V} {a : Nat} (l : Nat) (v w : ww_V) : ww_ip v (ww_U sz sp a l w) = ww_ip (ww_T sz sp 1 (fun _ => a) l v) w := by
  unfold ww_ip ww_U
  rw [ww_ps4, ww_ps4, ww_ps4, ww_ps4, ww_ps4, ww_ps4, ww_T1 (by omega), ww_T1 (by omega), ww_T1 (by omega), ww_T1 (by omega)]
  grind
theorem ww_E_ip {sz : Nat → Nat} {en : ww_V} {a : Nat} {v : ww_V} (hv : ∀ k, sz a ≤ k → v k = 0) : ww_E en 1 (fun _ => a) v = ww_ip v (ww_e sz en a) := by
  show ww_ps (fun k => v k * en (4 * a + k % 4)) 4 = ww_ps (fun q => v q * ww_e sz en a q) 4
  refine ww_ps_cg 4 (fun k hk => ?_)
  have e : k % 4 = k := by omega
  show v k * en (4 * a + k % 4) = v k * (if k < sz a then en (4 * a + k) else 0)
  rw [e]
  by_cases c : k < sz a
  · rw [if_pos c]
  · rw [if_neg c, hv k (by omega)]
    grind
/-- a is b with its states in the other order -/
def ww_Mir (sz : Nat → Nat) (st en sp : ww_V) (a b : Nat) : Prop :=
  sz a = sz b ∧ (∀ q, q < sz b → st (4 * a + (sz b - 1 - q)) = st (4 * b + q)) ∧ (∀ q, q < sz b → en (4 * a + (sz b - 1 - q)) = en (4 * b + q)) ∧
  (∀ l p q, l < 2 → p < sz b → q < sz b → sp (32 * a + 16 * l + 4 * (sz b - 1 - p) + (sz b - 1 - q)) = sp (32 * b + 16 * l + 4 * p + q))
theorem ww_Mir_M {sz : Nat → Nat} {st en sp : ww_V} {a b : Nat} (h : ww_Mir sz st en sp a b) {l p q : Nat} (hl : l < 2) (hp : p < sz b) (hq : q < sz b) : ww_M sz sp a l (sz b - 1 - p) (sz b - 1 - q) = ww_M sz sp b l p q := by
  obtain ⟨h1, _, _, h4⟩ := h
  unfold ww_M
  rw [h1, if_pos ⟨by omega, by omega⟩, if_pos ⟨hp, hq⟩]
  exact h4 l p q hl hp hq
theorem ww_M_0p {sz : Nat → Nat} {sp : ww_V} {a l p q : Nat} (h : sz a ≤ p) : ww_M sz sp a l p q = 0 := if_neg (fun z => absurd z.1 (by omega))
theorem ww_Mir_R {sz : Nat → Nat} {st en sp : ww_V} {a b : Nat} (h : ww_Mir sz st en sp a b) (h1 : 1 ≤ sz b) (h4 : sz b ≤ 4) : ∀ c, 1 ≤ c → ∀ q, q < sz b → ww_Ra sz st sp a c (sz b - 1 - q) = ww_Ra sz st sp b c q := by
  have hs := h.1
  refine ww_cind ?_ (fun c l hc hl ih => ?_)
  · intro q hq
    rw [ww_Ra_1 (by omega), ww_Ra_1 (by omega), if_pos (by omega), if_pos hq]
    exact h.2.1 q hq
  · intro q hq
    rw [ww_Ra_s hc hl (by omega), ww_Ra_s hc hl (by omega)]
    have m : ∀ p, p < sz b → ww_M sz sp a l (sz b - 1 - p) (sz b - 1 - q) = ww_M sz sp b l p q := fun p hp => ww_Mir_M h hl hp hq
    have za : ∀ p, sz b ≤ p → ww_M sz sp a l p (sz b - 1 - q) = 0 := fun p hp => ww_M_0p (by omega)
    have zb : ∀ p, sz b ≤ p → ww_M sz sp b l p q = 0 := fun p hp => ww_M_0p (by omega)
    generalize sz b - 1 - q = q' at m za ⊢
    have n4 : sz b = 1 ∨ sz b = 2 ∨ sz b = 3 ∨ sz b = 4 := by omega
    rcases n4 with e | e | e | e
    · rw [e] at m za zb ih
      have i0 := ih 0 (by omega)
      have m0 := m 0 (by omega)
      rw [show 1 - 1 - 0 = 0 from rfl] at i0 m0
      rw [i0, m0, za 1 (by omega), za 2 (by omega), za 3 (by omega), zb 1 (by omega), zb 2 (by omega), zb 3 (by omega)]
      grind
    · rw [e] at m za zb ih
      have i0 := ih 0 (by omega)
      have m0 := m 0 (by omega)
      have i1 := ih 1 (by omega)
      have m1 := m 1 (by omega)
      rw [show 2 - 1 - 0 = 1 from rfl] at i0 m0
      rw [show 2 - 1 - 1 = 0 from rfl] at i1 m1
      rw [i0, m0, i1, m1, za 2 (by omega), za 3 (by omega), zb 2 (by omega), zb 3 (by omega)]
      grind
    · rw [e] at m za zb ih
      have i0 := ih 0 (by omega)
      have m0 := m 0 (by omega)
      have i1 := ih 1 (by omega)
      have m1 := m 1 (by omega)
      have i2 := ih 2 (by omega)
      have m2 := m 2 (by omega)
      rw [show 3 - 1 - 0 = 2 from rfl] at i0 m0
      rw [show 3 - 1 - 1 = 1 from rfl] at i1 m1
      rw [show 3 - 1 - 2 = 0 from rfl] at i2 m2
      rw [i0, m0, i1, m1, i2, m2, za 3 (by omega), zb 3 (by omega)]
      grind
    · rw [e] at m za zb ih
      have i0 := ih 0 (by omega)
      have m0 := m 0 (by omega)
      have i1 := ih 1 (by omega)
      have m1 := m 1 (by omega)
      have i2 := ih 2 (by omega)
      have m2 := m 2 (by omega)
      have i3 := ih 3 (by omega)
      have m3 := m 3 (by omega)
      rw [show 4 - 1 - 0 = 3 from rfl] at i0 m0
      rw [show 4 - 1 - 1 = 2 from rfl] at i1 m1
      rw [show 4 - 1 - 2 = 1 from rfl] at i2 m2
      rw [show 4 - 1 - 3 = 0 from rfl] at i3 m3
      rw [i0, m0, i1, m1, i2, m2, i3, m3]
      grind
theorem ww_Mir_W {sz : Nat → Nat} {st en sp : ww_V} {a b : Nat} (h : ww_Mir sz st en sp a b) (h1 : 1 ≤ sz b) (h4 : sz b ≤ 4) {c : Nat} (hc : 1 ≤ c) : ww_W sz st en sp a c = ww_W sz st en sp b c := by
  have hs := h.1
  have ih := ww_Mir_R h h1 h4 c hc
  have m := h.2.2.1
  have za : ∀ p, sz b ≤ p → ww_Ra sz st sp a c p = 0 := fun p hp => ww_Ra_o c hc p (by omega)
  have zb : ∀ p, sz b ≤ p → ww_Ra sz st sp b c p = 0 := fun p hp => ww_Ra_o c hc p hp
  unfold ww_W
  rw [ww_E1, ww_E1]
  have n4 : sz b = 1 ∨ sz b = 2 ∨ sz b = 3 ∨ sz b = 4 := by omega
  rcases n4 with e | e | e | e
  · rw [e] at m za zb ih
    have i0 := ih 0 (by omega)
    have m0 := m 0 (by omega)
    rw [show 1 - 1 - 0 = 0 from rfl] at i0 m0
    rw [Nat.add_zero, Nat.add_zero] at m0
    rw [i0, m0, za 1 (by omega), za 2 (by omega), za 3 (by omega), zb 1 (by omega), zb 2 (by omega), zb 3 (by omega)]
    grind
  · rw [e] at m za zb ih
    have i0 := ih 0 (by omega)
    have m0 := m 0 (by omega)
    have i1 := ih 1 (by omega)
    have m1 := m 1 (by omega)
    rw [show 2 - 1 - 0 = 1 from rfl] at i0 m0
    rw [show 2 - 1 - 1 = 0 from rfl] at i1 m1
    rw [Nat.add_zero] at m0 m1
    rw [i0, m0, i1, m1, za 2 (by omega), za 3 (by omega), zb 2 (by omega), zb 3 (by omega)]
    grind
  · rw [e] at m za zb ih
    have i0 := ih 0 (by omega)
    have m0 := m 0 (by omega)
    have i1 := ih 1 (by omega)
    have m1 := m 1 (by omega)
    have i2 := ih 2 (by omega)
    have m2 := m 2 (by omega)
    rw [show 3 - 1 - 0 = 2 from rfl] at i0 m0
    rw [show 3 - 1 - 1 = 1 from rfl] at i1 m1
    rw [show 3 - 1 - 2 = 0 from rfl] at i2 m2
    rw [Nat.add_zero] at m0 m2
    rw [i0, m0, i1, m1, i2, m2, za 3 (by omega), zb 3 (by omega)]
    grind
  · rw [e] at m za zb ih
    have i0 := ih 0 (by omega)
    have m0 := m 0 (by omega)
    have i1 := ih 1 (by omega)
    have m1 := m 1 (by omega)
    have i2 := ih 2 (by omega)
    have m2 := m 2 (by omega)
    have i3 := ih 3 (by omega)
    have m3 := m 3 (by omega)
    rw [show 4 - 1 - 0 = 3 from rfl] at i0 m0
    rw [show 4 - 1 - 1 = 2 from rfl] at i1 m1
    rw [show 4 - 1 - 2 = 1 from rfl] at i2 m2
    rw [show 4 - 1 - 3 = 0 from rfl] at i3 m3
    rw [Nat.add_zero] at m0 m3
    rw [i0, m0, i1, m1, i2, m2, i3, m3]
    grind
end
section
/-! numbers mod 997 as ints; indices; places of arrays -/
theorem ww_ix (c a b : Nat) : nI c * nI a + nI b = nI (c * a + b) := by rw [pk_mul, nI_add]
theorem ww_i2 (a b : Nat) : (2 : Int32) * nI a + nI b = nI (2 * a + b) := ww_ix 2 a b
theorem ww_i4 (a b : Nat) : (4 : Int32) * nI a + nI b = nI (4 * a + b) := ww_ix 4 a b
theorem ww_i12 (a b : Nat) : (12 : Int32) * nI a + nI b = nI (12 * a + b) := ww_ix 12 a b
theorem ww_i32 (a b : Nat) : (32 : Int32) * nI a + nI b = nI (32 * a + b) := ww_ix 32 a b
theorem ww_m4 (a : Nat) : (4 : Int32) * nI a = nI (4 * a) := pk_mul 4 a
theorem ww_i96 (a l p q : Nat) : (32 : Int32) * nI a + 16 * nI l + 4 * nI p + nI q = nI (32 * a + 16 * l + 4 * p + q) := by
  show nI 32 * nI a + nI 16 * nI l + nI 4 * nI p + nI q = _
  rw [pk_mul, pk_mul, pk_mul, nI_add, nI_add, nI_add]
theorem ww_i16 (a b : Nat) : (16 : Int32) + 4 * nI a + nI b = nI (16 + 4 * a + b) := by
  show nI 16 + nI 4 * nI a + nI b = _
  rw [pk_mul, nI_add, nI_add]
theorem ww_sh2 {k : Nat} (h : k < 2 ^ 31) : nI k >>> ((2 : Int32) &&& 31) = nI (k / 4) := pk_shrN h _ 2 (by decide)
theorem ww_sh4 {k : Nat} (h : k < 2 ^ 31) : nI k >>> ((4 : Int32) &&& 31) = nI (k / 16) := pk_shrN h _ 4 (by decide)
theorem ww_an3 {k : Nat} (h : k < 2 ^ 31) : nI k &&& 3 = nI (k % 4) := pk_andN (by omega) 2 (by decide)
theorem ww_1n0 : ¬ (1 : Int32) = 0 := by decide
theorem ww_997 : ¬ (997 : Int32) = 0 := by decide
theorem ww_lt (x y : ww_F) : x.val * y.val < 997 * 997 := Nat.mul_lt_mul'' x.isLt y.isLt
theorem ww_mul (x y : ww_F) : nI x.val * nI y.val - nI x.val * nI y.val / 997 * 997 = nI (x * y).val := by
  have h := ww_lt x y
  rw [pk_mul, Fin.val_mul]
  exact pk_rem (d := 997) (by omega) (by omega) (by omega)
theorem ww_mad (s x y : ww_F) : nI s.val + nI x.val * nI y.val - (nI s.val + nI x.val * nI y.val) / 997 * 997 = nI (s + x * y).val := by
  have h := ww_lt x y
  have hs := s.isLt
  have e : (s + x * y).val = (s.val + x.val * y.val) % 997 := by
    rw [Fin.val_add, Fin.val_mul]
    omega
  rw [pk_mul, nI_add, e]
  exact pk_rem (d := 997) (by omega) (by omega) (by omega)
theorem ww_msb (s x y : ww_F) : nI s.val + (997 - nI x.val) * nI y.val - (nI s.val + (997 - nI x.val) * nI y.val) / 997 * 997 = nI (s - x * y).val := by
  have hx := x.isLt
  have hy := y.isLt
  have hs := s.isLt
  have e0 : (997 : Int32) - nI x.val = nI (997 - x.val) := pk_sub (a := 997) (by omega)
  have h : (997 - x.val) * y.val ≤ 997 * 997 := Nat.mul_le_mul (by omega) (by omega)
  have e : (s - x * y).val = (s.val + (997 - x.val) * y.val) % 997 := by
    rw [Fin.val_sub, Fin.val_mul, Nat.sub_mul]
    have h2 : x.val * y.val ≤ 997 * y.val := Nat.mul_le_mul (by omega) (Nat.le_refl _)
    generalize x.val * y.val = t at *
    omega
  rw [e0, pk_mul, nI_add, e]
  exact pk_rem (d := 997) (by omega) (by omega) (by omega)
theorem ww_inj {x y : ww_F} (h : nI x.val = nI y.val) : x = y := by
  have hx := x.isLt
  have hy := y.isLt
  exact Fin.ext ((nI_eq (by omega) (by omega)).mp h)
theorem ww_c (x : ww_F) : x.val < 2 ^ 31 := by
  have hx := x.isLt
  omega
/-- the remainder of any int, made positive -/
theorem ww_rem (x y : Int32) : (x - x / y * y).toInt = x.toInt.tmod y.toInt := by
  have a := (x % y).toInt_lt
  have b := (x % y).le_toInt
  rw [Int32.toInt_mod] at a b
  rw [Int32.toInt_sub, Int32.toInt_mul, Int32.toInt_div, Int.bmod_mul_bmod, Int.sub_bmod_bmod, Int.mul_comm, ← Int.tmod_def]
  exact Int.bmod_eq_of_le (by omega) (by omega)
theorem ww_modulo {post : Int32 → Prop} (x : Int32) (H : ∀ t : ww_F, post (nI t.val)) : wpX_modulo post () x := by
  refine And.intro ww_997 (fun r hr => ?_)
  have e7 : (997 : Int32).toInt = 997 := by decide
  have e0 : (0 : Int32).toInt = 0 := by decide
  have e : r.toInt = x.toInt.tmod 997 := by
    rw [hr, ww_rem, e7]
  have g : r.toInt.natAbs < 997 := by
    rw [e, Int.natAbs_tmod]
    exact Nat.mod_lt _ (by decide)
  refine br_c (fun h => ?_) (fun h => ?_)
  · rw [Int32.le_iff_toInt_le, e0] at h
    have q : r = nI (⟨r.toInt.toNat, by omega⟩ : ww_F).val := by
      refine Int32.toInt_inj.mp ?_
      rw [nI_toInt (ww_c _)]
      show r.toInt = (r.toInt.toNat : Int)
      omega
    rw [q]
    exact H _
  · rw [Int32.le_iff_toInt_le, e0] at h
    have q : r + 997 = nI (⟨(r.toInt + 997).toNat, by omega⟩ : ww_F).val := by
      refine Int32.toInt_inj.mp ?_
      rw [nI_toInt (ww_c _), Int32.toInt_add, e7, Int.bmod_eq_of_le (by omega) (by omega)]
      show r.toInt + 997 = ((r.toInt + 997).toNat : Int)
      omega
    rw [q]
    exact H _
/-- an array that holds a row's first n numbers -/
def ww_vv (n : Nat) (a : Nat → Int32) (v : ww_V) : Prop := ∀ k, k < n → a k = nI (v k).val
theorem ww_vv_up {n : Nat} {a : Nat → Int32} {v w : ww_V} {k : Nat} {x : ww_F} (h : ww_vv n a v) (hk : w k = x) (ho : ∀ j, j ≠ k → w j = v j) : ww_vv n (upd a k (nI x.val)) w := by
  intro j hj
  by_cases e : j = k
  · rw [e, pk_us, hk]
  · rw [pk_un e, h j hj, ho j e]
theorem ww_fill {f s : Nat → Int32} {i : Nat} {x : Int32} (h : ∀ j, j < i → s j = f j) (hx : x = f i) : ∀ j, j < i + 1 → upd s i x j = f j := by
  intro j hj
  by_cases e : j = i
  · rw [e, pk_us, hx]
  · rw [pk_un e]
    exact h j (by omega)
/-- the automata in the arrays -/
def ww_P (sz : Nat → Nat) (st en sp : ww_V) (a1 a2 a3 a4 : Nat → Int32) : Prop :=
  (∀ j, j < 3 → a1 j = nI (sz j) ∧ 1 ≤ sz j ∧ sz j ≤ 4) ∧ ww_vv 12 a2 st ∧ ww_vv 12 a3 en ∧ ww_vv 96 a4 sp
/-- the members at work, and their signs -/
def ww_N (m : Nat) (mb : Nat → Nat) (sg : ww_V) (a5 a6 : Nat → Int32) : Prop := ∀ i, i < m → a5 i = nI (mb i) ∧ mb i < 3 ∧ a6 i = nI (sg i).val
/-- the reduced rows and their pivots -/
def ww_BR (n : Nat) (R : Nat → ww_V) (pv : Nat → Nat) (a9 a10 : Nat → Int32) : Prop := ∀ c, c < n → (∀ k, k < 12 → a9 (12 * c + k) = nI (R c k).val) ∧ a10 c = nI (pv c) ∧ pv c < 12
/-- the rows kept and their codes -/
def ww_RW (n : Nat) (X : Nat → ww_V) (cd : Nat → Nat) (a7 a8 : Nat → Int32) : Prop := ∀ i, i < n → (∀ k, k < 12 → a7 (12 * i + k) = nI (X i k).val) ∧ a8 i = nI (cd i)
theorem ww_isGood {post : Int32 → Prop} {a : Nat} (h : a < 3) (H : post 1) : wpX_isGood post () (nI a) :=
  pk_lt a 0 (fun z => absurd z (by omega)) (fun _ => pk_lt 2 a (fun z => absurd z (by omega)) (fun _ => H))
theorem ww_states {post : Int32 → Prop} {m w b : Int32} {a1 a2 a3 a4 a5 a6 a7 a8 a9 a10 a11 a12 a13 : Nat → Int32} {sz : Nat → Nat} {st en sp : ww_V} {a : Nat} (hP : ww_P sz st en sp a1 a2 a3 a4) (h : a < 3) (H : post (nI (sz a))) : wpX_states post (m, w, b, a1, a2, a3, a4, a5, a6, a7, a8, a9, a10, a11, a12, a13) (nI a) := by
  unfold wpX_states
  dsimp only
  refine ww_isGood h (br_f ww_1n0 (And.intro (pk_in a 3 h) ?_))
  rw [nI_clamp (show a < 2 ^ 31 by omega), (hP.1 a h).1]
  exact H
end
section
/-! the start row, a step, the end value -/
theorem ww_alone {post : St1 → Prop} {m w b : Int32} {a1 a2 a3 a4 a5 a6 a7 a8 a9 a10 a11 a12 a13 : Nat → Int32} {a : Nat} (ha : a < 3) (H : ∀ s5 s6, ww_N 1 (fun _ => a) (fun _ => 1) s5 s6 → post (1, w, b, a1, a2, a3, a4, s5, s6, a7, a8, a9, a10, a11, a12, a13)) : wpX_alone post (m, w, b, a1, a2, a3, a4, a5, a6, a7, a8, a9, a10, a11, a12, a13) (nI a) := by
  refine nm_e (nm_e (H _ _ (fun i hi => ?_)))
  have e : i = 0 := by omega
  rw [e, pk_us, pk_us]
  exact ⟨rfl, ha, rfl⟩
theorem ww_pair {post : St1 → Prop} {m w b : Int32} {a1 a2 a3 a4 a5 a6 a7 a8 a9 a10 a11 a12 a13 : Nat → Int32} {a c : Nat} (ha : a < 3) (hc : c < 3) (H : ∀ s5 s6, ww_N 2 (ww_mb2 a c) ww_sg2 s5 s6 → post (2, w, b, a1, a2, a3, a4, s5, s6, a7, a8, a9, a10, a11, a12, a13)) : wpX_pair post (m, w, b, a1, a2, a3, a4, a5, a6, a7, a8, a9, a10, a11, a12, a13) (nI a) (nI c) := by
  refine nm_e (nm_e (nm_e (nm_e (H _ _ (fun i hi => ?_)))))
  by_cases e : i = 0
  · subst e
    exact ⟨rfl, ha, rfl⟩
  · have e : i = 1 := by omega
    rw [e, pk_us, pk_us]
    exact ⟨rfl, hc, rfl⟩
theorem ww_start_33 {post : St1 → Prop} {J : Int32 → (Nat → Int32) → (Nat → Int32) → (Nat → Int32) → (Nat → Int32) → (Nat → Int32) → (Nat → Int32) → (Nat → Int32) → (Nat → Int32) → (Nat → Int32) → (Nat → Int32) → (Nat → Int32) → (Nat → Int32) → (Nat → Int32) → Prop} {m w b : Int32} {a1 a2 a3 a4 a5 a6 a7 a8 a9 a10 a11 a12 a13 : Nat → Int32} {sz : Nat → Nat} {st en sp sg : ww_V} {mb : Nat → Nat} {i : Nat} (hP : ww_P sz st en sp a1 a2 a3 a4) (h5 : a5 i = nI (mb i)) (hb : mb i < 3) (h6 : a6 i = nI (sg i).val) (hi : i < 3)
    (H : ∀ s, (∀ k, k < 12 → s k = if k / 4 = i ∧ k % 4 < sz (mb i) then nI (st (4 * mb i + k % 4) * sg i).val else a11 k) → J (nI (i + 1)) a1 a2 a3 a4 a5 a6 a7 a8 a9 a10 s a12 a13) : ∃ n, wX_startRow_33 post J (nI i) m w b n 0 a1 a2 a3 a4 a5 a6 a7 a8 a9 a10 a11 a12 a13 := by
  obtain ⟨p1, p2, p3, p4⟩ := hP
  obtain ⟨z1, z2, z3⟩ := p1 (mb i) hb
  have ci : (nI i).toNatClampNeg = i := nI_clamp (by omega)
  have c5 : a5 (nI i).toNatClampNeg = nI (mb i) := by rw [ci]; exact h5
  have c1 : a1 (a5 (nI i).toNatClampNeg).toNatClampNeg = nI (sz (mb i)) := by rw [c5, nI_clamp (by omega)]; exact z1
  refine pk_loop (fun n q s => wX_startRow_33 post J (nI i) m w b n (nI q) a1 a2 a3 a4 a5 a6 a7 a8 a9 a10 s a12 a13) (fun q s => ∀ k, k < 12 → s k = if k / 4 = i ∧ k % 4 < q then nI (st (4 * mb i + k % 4) * sg i).val else a11 k) (sz (mb i)) 0 a11 (by omega) ?_ ?_ ?_
  · intro k hk
    exact (if_neg (fun z => absurd z.2 (by omega))).symm
  · intro n s h
    exact And.intro (pk_in i 3 hi) (And.intro (pk_in (mb i) 3 hb c5) (pk_le (sz (mb i)) (sz (mb i)) (fun _ => nm_r (nI_1 i) (H s h)) (fun z => absurd z (by omega)) c1 rfl (by omega) (by omega)))
  · intro n q s hq h hw
    have x2 : 4 * a5 (nI i).toNatClampNeg + nI q = nI (4 * mb i + q) := by rw [c5]; exact ww_i4 _ _
    have x3 : 4 * nI i + nI q = nI (4 * i + q) := ww_i4 _ _
    refine And.intro (pk_in i 3 hi) (And.intro (pk_in (mb i) 3 hb c5) (pk_le (sz (mb i)) q (fun z => absurd z (by omega)) (fun _ => ⟨pk_in i 3 hi, pk_in (4 * mb i + q) 12 (by omega) x2, pk_in i 3 hi, ww_997, pk_in (4 * i + q) 12 (by omega) x3, nm_r (e' := upd s (4 * i + q) (nI (st (4 * mb i + q) * sg i).val)) ?_ (nm_r (nI_1 q) (hw _ ?_))⟩) c1 rfl (by omega) (by omega)))
    · rw [x3, x2, ci, nI_clamp (by omega), nI_clamp (by omega), p2 _ (by omega), h6, ww_mul]
    · intro k hk
      by_cases e : k = 4 * i + q
      · have e1 : k / 4 = i := by omega
        have e2 : k % 4 = q := by omega
        rw [if_pos ⟨e1, by omega⟩, e2, e, pk_us]
      · rw [pk_un e, h k hk]
        by_cases c : k / 4 = i ∧ k % 4 < q
        · rw [if_pos c, if_pos ⟨c.1, by omega⟩]
        · rw [if_neg c, if_neg (fun z => c ⟨z.1, by omega⟩)]
theorem ww_startRow {post : St1 → Prop} {m : Nat} {w b : Int32} {a1 a2 a3 a4 a5 a6 a7 a8 a9 a10 a11 a12 a13 : Nat → Int32} {sz : Nat → Nat} {st en sp sg : ww_V} {mb : Nat → Nat} (hP : ww_P sz st en sp a1 a2 a3 a4) (hN : ww_N m mb sg a5 a6) (hm : m ≤ 3)
    (H : ∀ s, ww_vv 12 s (ww_S sz st m mb sg) → post (nI m, w, b, a1, a2, a3, a4, a5, a6, a7, a8, a9, a10, s, a12, a13)) : wpX_startRow post (nI m, w, b, a1, a2, a3, a4, a5, a6, a7, a8, a9, a10, a11, a12, a13) := by
  refine pk_loop (fun n i s => wX_startRow_2 post (nI m) w b n (nI i) a1 a2 a3 a4 a5 a6 a7 a8 a9 a10 s a12 a13) (fun i s => ∀ j, j < i → s j = 0) 12 0 a11 (by omega) lt_0 ?_ ?_
  · intro n s h
    refine pk_le 12 12 (fun _ => ?_) (fun z => absurd z (by omega))
    refine pk_loop (fun n i s => wX_startRow_23 post (nI m) w b n (nI i) a1 a2 a3 a4 a5 a6 a7 a8 a9 a10 s a12 a13) (fun i s => ∀ k, k < 12 → s k = nI (if k / 4 < i then ww_S sz st m mb sg k else 0).val) m 0 s (by omega) ?_ ?_ ?_
    · intro k hk
      rw [h k hk, if_neg (by omega)]
      rfl
    · intro n s h
      refine pk_le m m (fun _ => H s ?_) (fun z => absurd z (by omega))
      intro k hk
      rw [h k hk]
      by_cases c : k / 4 < m
      · rw [if_pos c]
      · rw [if_neg c, ww_S_om (by omega)]
    · intro n i s hi h hw
      obtain ⟨n1, n2, n3⟩ := hN i hi
      refine pk_le m i (fun z => absurd z (by omega)) (fun _ => ww_start_33 hP n1 n2 n3 (by omega) (fun s' h' => hw s' ?_))
      intro k hk
      rw [h' k hk]
      by_cases c : k / 4 = i
      · rw [if_pos (show k / 4 < i + 1 by omega)]
        unfold ww_S
        rw [c]
        by_cases d : k % 4 < sz (mb i)
        · rw [if_pos ⟨rfl, d⟩, if_pos ⟨by omega, d⟩]
        · rw [if_neg (fun z => d z.2), if_neg (fun z => d z.2), h k hk, if_neg (by omega)]
      · rw [if_neg (fun z => c z.1), h k hk]
        by_cases d : k / 4 < i
        · rw [if_pos d, if_pos (by omega)]
        · rw [if_neg d, if_neg (by omega)]
  · intro n i s hi h hw
    exact pk_le 12 i (fun z => absurd z (by omega)) (fun _ => ⟨pk_in i 12 (by omega), nm_r (e' := upd s i 0) (by rw [nI_clamp (by omega)]) (nm_r (nI_1 i) (hw _ (ww_fill (f := fun _ => 0) h rfl)))⟩)
/-- the end value -/
theorem ww_endValue {post : Int32 → Prop} {m : Nat} {w b : Int32} {a1 a2 a3 a4 a5 a6 a7 a8 a9 a10 a11 a12 a13 : Nat → Int32} {sz : Nat → Nat} {st en sp sg : ww_V} {mb : Nat → Nat} {v : ww_V} (hP : ww_P sz st en sp a1 a2 a3 a4) (hN : ww_N m mb sg a5 a6) (hm : m ≤ 3) (hv : ww_vv 12 a11 v)
    (H : post (nI (ww_E en m mb v).val)) : wpX_endValue post (nI m, w, b, a1, a2, a3, a4, a5, a6, a7, a8, a9, a10, a11, a12, a13) := by
  refine pk_loop (σ := Unit) (fun n k _ => wX_endValue_4 post (nI m) w b a1 a2 a3 a4 a5 a6 a7 a8 a9 a10 a11 a12 a13 n (nI (ww_ps (fun k => v k * en (4 * mb (k / 4) + k % 4)) k).val) (nI k)) (fun _ _ => True) (4 * m) 0 () (by omega) trivial ?_ ?_
  · intro n _ _
    exact pk_le (4 * m) (4 * m) (fun _ => H) (fun z => absurd z (by omega)) (ww_m4 m) rfl (by omega) (by omega)
  · intro n k _ hk _ hw
    obtain ⟨n1, n2, n3⟩ := hN (k / 4) (by omega)
    have s2 : nI k >>> ((2 : Int32) &&& 31) = nI (k / 4) := ww_sh2 (by omega)
    have c5 : a5 (nI k >>> ((2 : Int32) &&& 31)).toNatClampNeg = nI (mb (k / 4)) := by rw [s2, nI_clamp (by omega)]; exact n1
    have x5 : 4 * a5 (nI k >>> ((2 : Int32) &&& 31)).toNatClampNeg + (nI k &&& 3) = nI (4 * mb (k / 4) + k % 4) := by rw [c5, ww_an3 (by omega)]; exact ww_i4 _ _
    refine pk_le (4 * m) k (fun z => absurd z (by omega)) (fun _ => ⟨pk_in k 12 (by omega), pk_in (k / 4) 3 (by omega) s2, pk_in (4 * mb (k / 4) + k % 4) 12 (by omega) x5, ww_997, nm_r (e' := nI (ww_ps (fun k => v k * en (4 * mb (k / 4) + k % 4)) (k + 1)).val) ?_ (nm_r (nI_1 k) (hw () trivial))⟩) (ww_m4 m) rfl (by omega) (by omega)
    rw [x5, nI_clamp (by omega), nI_clamp (by omega), hv k (by omega), hP.2.2.1 _ (by omega), ww_mad]
    rfl
/-- one step: a place k of the row at hand -/
theorem ww_adv_53 {post : St1 → Prop} {J : Int32 → (Nat → Int32) → (Nat → Int32) → (Nat → Int32) → (Nat → Int32) → (Nat → Int32) → (Nat → Int32) → (Nat → Int32) → (Nat → Int32) → (Nat → Int32) → (Nat → Int32) → (Nat → Int32) → (Nat → Int32) → (Nat → Int32) → Prop} {m w b : Int32} {a1 a2 a3 a4 a5 a6 a7 a8 a9 a10 a11 a12 a13 : Nat → Int32} {sz : Nat → Nat} {st en sp : ww_V} {mb : Nat → Nat} {l k : Nat} {u v : ww_V} (hP : ww_P sz st en sp a1 a2 a3 a4) (hb : mb (k / 4) < 3) (hk : k < 12) (hl : l < 2) (hv : ww_vv 12 a11 v) (hu : ww_vv 12 a12 u)
    (H : ∀ s, ww_vv 12 s (fun j => u j + ww_t sz sp mb l v j k) → J (nI (k + 1)) a1 a2 a3 a4 a5 a6 a7 a8 a9 a10 a11 s a13) : ∃ n, wX_advance_53 post J (nI l) (nI k) (nI (k / 4)) (nI (k % 4)) (nI (mb (k / 4))) m w b n 0 a1 a2 a3 a4 a5 a6 a7 a8 a9 a10 a11 a12 a13 := by
  obtain ⟨p1, p2, p3, p4⟩ := hP
  obtain ⟨z1, z2, z3⟩ := p1 (mb (k / 4)) hb
  have c1 : a1 (nI (mb (k / 4))).toNatClampNeg = nI (sz (mb (k / 4))) := by rw [nI_clamp (by omega)]; exact z1
  by_cases hp : sz (mb (k / 4)) ≤ k % 4
  · refine ⟨1, And.intro (pk_in (mb (k / 4)) 3 hb) (pk_le (sz (mb (k / 4))) 0 (fun z => absurd z (by omega)) (fun _ => ⟨pk_in (mb (k / 4)) 3 hb, pk_le (sz (mb (k / 4))) (k % 4) (fun _ => nm_r (nI_1 k) (H a12 ?_)) (fun z => absurd z (by omega)) c1 rfl (by omega) (by omega)⟩) c1 rfl (by omega) (by omega))⟩
    intro j hj
    have e : ww_t sz sp mb l v j k = 0 := by
      unfold ww_t
      by_cases c : k / 4 = j / 4
      · rw [if_pos c, ww_M_0p hp]
        grind
      · exact if_neg c
    show a12 j = nI (u j + ww_t sz sp mb l v j k).val
    rw [e, hu j hj]
    exact congrArg (fun t : ww_F => nI t.val) (show u j = u j + 0 by grind)
  · refine pk_loop (fun n q s => wX_advance_53 post J (nI l) (nI k) (nI (k / 4)) (nI (k % 4)) (nI (mb (k / 4))) m w b n (nI q) a1 a2 a3 a4 a5 a6 a7 a8 a9 a10 a11 s a13) (fun q s => ww_vv 12 s (fun j => if j % 4 < q then u j + ww_t sz sp mb l v j k else u j)) (sz (mb (k / 4))) 0 a12 (by omega) ?_ ?_ ?_
    · intro j hj
      show a12 j = nI (if j % 4 < 0 then u j + ww_t sz sp mb l v j k else u j).val
      rw [if_neg (by omega)]
      exact hu j hj
    · intro n s h
      refine And.intro (pk_in (mb (k / 4)) 3 hb) (pk_le (sz (mb (k / 4))) (sz (mb (k / 4))) (fun _ => nm_r (nI_1 k) (H s ?_)) (fun z => absurd z (by omega)) c1 rfl (by omega) (by omega))
      intro j hj
      have g := h j hj
      show s j = nI (u j + ww_t sz sp mb l v j k).val
      by_cases c : j % 4 < sz (mb (k / 4))
      · have g' : s j = nI (if j % 4 < sz (mb (k / 4)) then u j + ww_t sz sp mb l v j k else u j).val := g
        rw [if_pos c] at g'
        exact g'
      · have g' : s j = nI (if j % 4 < sz (mb (k / 4)) then u j + ww_t sz sp mb l v j k else u j).val := g
        rw [if_neg c] at g'
        have e : ww_t sz sp mb l v j k = 0 := by
          unfold ww_t
          by_cases d : k / 4 = j / 4
          · rw [if_pos d]
            have e2 : ww_M sz sp (mb (k / 4)) l (k % 4) (j % 4) = 0 := if_neg (fun z => c z.2)
            rw [e2]
            grind
          · exact if_neg d
        rw [e, g']
        exact congrArg (fun t : ww_F => nI t.val) (show u j = u j + 0 by grind)
    · intro n q s hq h hw
      have x4 : (32 : Int32) * nI (mb (k / 4)) + 16 * nI l + 4 * nI (k % 4) + nI q = nI (32 * mb (k / 4) + 16 * l + 4 * (k % 4) + q) := ww_i96 _ _ _ _
      have x3 : (4 : Int32) * nI (k / 4) + nI q = nI (4 * (k / 4) + q) := ww_i4 _ _
      refine And.intro (pk_in (mb (k / 4)) 3 hb) (pk_le (sz (mb (k / 4))) q (fun z => absurd z (by omega)) (fun _ => ⟨pk_in (mb (k / 4)) 3 hb, pk_le (sz (mb (k / 4))) (k % 4) (fun z => absurd z (by omega)) (fun _ => ⟨pk_in k 12 hk, pk_in (32 * mb (k / 4) + 16 * l + 4 * (k % 4) + q) 96 (by omega) x4, nm_r (e' := nI (v k).val * nI (sp (32 * mb (k / 4) + 16 * l + 4 * (k % 4) + q)).val) ?_ ⟨pk_in (4 * (k / 4) + q) 12 (by omega) x3, ww_997, pk_in (4 * (k / 4) + q) 12 (by omega) x3, nm_r (e' := upd s (4 * (k / 4) + q) (nI (u (4 * (k / 4) + q) + v k * sp (32 * mb (k / 4) + 16 * l + 4 * (k % 4) + q)).val)) ?_ (nm_r (nI_1 q) (hw _ ?_))⟩⟩) c1 rfl (by omega) (by omega)⟩) c1 rfl (by omega) (by omega))
      · rw [x4, nI_clamp (by omega), nI_clamp (by omega), hv k hk, p4 _ (by omega)]
      · have g : s (4 * (k / 4) + q) = nI (if (4 * (k / 4) + q) % 4 < q then u (4 * (k / 4) + q) + ww_t sz sp mb l v (4 * (k / 4) + q) k else u (4 * (k / 4) + q)).val := h _ (by omega)
        rw [if_neg (by omega)] at g
        rw [x3, nI_clamp (by omega), g, ww_mad]
      · refine ww_vv_up h ?_ ?_
        · show (if (4 * (k / 4) + q) % 4 < q + 1 then u (4 * (k / 4) + q) + ww_t sz sp mb l v (4 * (k / 4) + q) k else u (4 * (k / 4) + q)) = _
          rw [if_pos (by omega), ww_t_on (a := mb (k / 4)) (p := k % 4) (q := q) (by omega) rfl rfl (by omega)]
          have e2 : ww_M sz sp (mb (k / 4)) l (k % 4) q = sp (32 * mb (k / 4) + 16 * l + 4 * (k % 4) + q) := if_pos ⟨by omega, by omega⟩
          rw [e2]
        · intro j hj
          show (if j % 4 < q + 1 then u j + ww_t sz sp mb l v j k else u j) = (if j % 4 < q then u j + ww_t sz sp mb l v j k else u j)
          by_cases c : j % 4 < q
          · rw [if_pos c, if_pos (by omega)]
          · rw [if_neg c]
            by_cases d : j % 4 < q + 1
            · rw [if_pos d, ww_t_off (by omega)]
              grind
            · rw [if_neg d]
theorem ww_advance {post : St1 → Prop} {m : Nat} {w b : Int32} {a1 a2 a3 a4 a5 a6 a7 a8 a9 a10 a11 a12 a13 : Nat → Int32} {sz : Nat → Nat} {st en sp sg : ww_V} {mb : Nat → Nat} {l : Nat} {v : ww_V} (hP : ww_P sz st en sp a1 a2 a3 a4) (hN : ww_N m mb sg a5 a6) (hm : m ≤ 3) (hl : l < 2) (hv : ww_vv 12 a11 v)
    (H : ∀ s t, ww_vv 12 s (ww_T sz sp m mb l v) → post (nI m, w, b, a1, a2, a3, a4, a5, a6, a7, a8, a9, a10, s, t, a13)) : wpX_advance post (nI m, w, b, a1, a2, a3, a4, a5, a6, a7, a8, a9, a10, a11, a12, a13) (nI l) := by
  refine pk_loop (fun n i s => wX_advance_2 post (nI l) (nI m) w b n (nI i) a1 a2 a3 a4 a5 a6 a7 a8 a9 a10 a11 s a13) (fun i s => ∀ j, j < i → s j = 0) 12 0 a12 (by omega) lt_0 ?_ ?_
  · intro n s h
    refine pk_le 12 12 (fun _ => ?_) (fun z => absurd z (by omega))
    refine pk_loop (fun n k s => wX_advance_23 post (nI l) (nI m) w b n (nI k) a1 a2 a3 a4 a5 a6 a7 a8 a9 a10 a11 s a13) (fun k s => ww_vv 12 s (fun j => ww_ps (ww_t sz sp mb l v j) k)) (4 * m) 0 s (by omega) ?_ ?_ ?_
    · intro k hk
      rw [h k hk]
      rfl
    · intro n t ht
      refine pk_le (4 * m) (4 * m) (fun _ => ?_) (fun z => absurd z (by omega)) (ww_m4 m) rfl (by omega) (by omega)
      refine pk_loop (fun n i s => wX_advance_152 post (nI m) w b n (nI i) a1 a2 a3 a4 a5 a6 a7 a8 a9 a10 s t a13) (fun i s => ∀ j, j < i → s j = t j) 12 0 a11 (by omega) lt_0 ?_ ?_
      · intro n s h
        refine pk_le 12 12 (fun _ => H s t (fun k hk => ?_)) (fun z => absurd z (by omega))
        rw [h k hk]
        exact ht k hk
      · intro n i s hi h hw
        exact pk_le 12 i (fun z => absurd z (by omega)) (fun _ => ⟨pk_in i 12 (by omega), pk_in i 12 (by omega), nm_r (e' := upd s i (t i)) (by rw [nI_clamp (by omega)]) (nm_r (nI_1 i) (hw _ (ww_fill h rfl)))⟩)
    · intro n k t hk ht hw
      obtain ⟨n1, n2, n3⟩ := hN (k / 4) (by omega)
      refine pk_le (4 * m) k (fun z => absurd z (by omega)) (fun _ => nm_r (ww_sh2 (by omega)) (nm_r (ww_an3 (by omega)) ⟨pk_in (k / 4) 3 (by omega), nm_r (e' := nI (mb (k / 4))) (by rw [nI_clamp (by omega)]; exact n1) (ww_adv_53 hP n2 (by omega) hl hv ht (fun s hs => hw s hs))⟩)) (ww_m4 m) rfl (by omega) (by omega)
  · intro n i s hi h hw
    exact pk_le 12 i (fun z => absurd z (by omega)) (fun _ => ⟨pk_in i 12 (by omega), nm_r (e' := upd s i 0) (by rw [nI_clamp (by omega)]) (nm_r (nI_1 i) (hw _ (ww_fill (f := fun _ => 0) h rfl)))⟩)
theorem ww_takeRow {post : St1 → Prop} {m w b : Int32} {a1 a2 a3 a4 a5 a6 a7 a8 a9 a10 a11 a12 a13 : Nat → Int32} {n k : Nat} {X : Nat → ww_V} {cd : Nat → Nat} (hR : ww_RW n X cd a7 a8) (hk : k < n) (hn : n ≤ 12) (H : ∀ s, ww_vv 12 s (X k) → post (m, w, b, a1, a2, a3, a4, a5, a6, a7, a8, a9, a10, s, a12, a13)) : wpX_takeRow post (m, w, b, a1, a2, a3, a4, a5, a6, a7, a8, a9, a10, a11, a12, a13) (nI k) := by
  refine pk_loop (fun n i s => wX_takeRow_2 post (nI k) m w b n (nI i) a1 a2 a3 a4 a5 a6 a7 a8 a9 a10 s a12 a13) (fun i s => ∀ j, j < i → s j = nI (X k j).val) 12 0 a11 (by omega) lt_0 ?_ ?_
  · intro n s h
    exact pk_le 12 12 (fun _ => H s h) (fun z => absurd z (by omega))
  · intro n i s hi h hw
    have x : (12 : Int32) * nI k + nI i = nI (12 * k + i) := ww_i12 _ _
    refine pk_le 12 i (fun z => absurd z (by omega)) (fun _ => ⟨pk_in (12 * k + i) 168 (by omega) x, pk_in i 12 (by omega), nm_r (e' := upd s i (nI (X k i).val)) ?_ (nm_r (nI_1 i) (hw _ (ww_fill h rfl)))⟩)
    rw [x, nI_clamp (by omega), nI_clamp (by omega), (hR k hk).1 i hi]
end
section
/-! the inverse; a row into the basis; a row kept -/
theorem ww_b995 : ∀ i, i < 10 → (((995 : Int32) >>> (nI i &&& 31)) &&& 1 = 1 ↔ 995 / 2 ^ i % 2 = 1) := by decide +kernel
theorem ww_inverse {post : Int32 → Prop} {x : ww_F} (H : post (nI (ww_iv x 10).val)) : wpX_inverse post () (nI x.val) := by
  refine pk_loop (σ := Unit) (fun n i _ => wX_inverse_11 post 995 n (nI (ww_iv x i).val) (nI (ww_sq x i).val) (nI i)) (fun _ _ => True) 10 0 () (by omega) trivial ?_ ?_
  · intro n _ _
    exact pk_le 10 10 (fun _ => H) (fun z => absurd z (by omega))
  · intro n i _ hi _ hw
    refine pk_le 10 i (fun z => absurd z (by omega)) (fun _ => ek_if (ww_b995 i hi) (fun c => ⟨ww_997, nm_r (e' := nI (ww_iv x (i + 1)).val) ?_ ⟨ww_997, nm_r (e' := nI (ww_sq x (i + 1)).val) (ww_mul _ _) (nm_r (nI_1 i) (hw () trivial))⟩⟩) (fun c => ⟨ww_997, nm_r (e' := nI (ww_sq x (i + 1)).val) (ww_mul _ _) (nm_r (nI_1 i) ?_)⟩))
    · rw [ww_mul]
      have e : ww_iv x (i + 1) = ww_iv x i * ww_sq x i := if_pos c
      rw [e]
    · have e : ww_iv x (i + 1) = ww_iv x i := if_neg c
      have t := hw () trivial
      rw [e] at t
      exact t
/-- next is reduced by row c -/
theorem ww_enter_50 {post : Int32 → St1 → Prop} {J : Int32 → (Nat → Int32) → (Nat → Int32) → (Nat → Int32) → (Nat → Int32) → (Nat → Int32) → (Nat → Int32) → (Nat → Int32) → (Nat → Int32) → (Nat → Int32) → (Nat → Int32) → (Nat → Int32) → (Nat → Int32) → (Nat → Int32) → Prop} {m w b : Int32} {a1 a2 a3 a4 a5 a6 a7 a8 a9 a10 a11 a12 a13 : Nat → Int32} {c : Nat} {f : ww_F} {u r : ww_V} (hc : c < 14) (hu : ww_vv 12 a12 u) (hr : ∀ k, k < 12 → a9 (12 * c + k) = nI (r k).val)
    (H : ∀ s, ww_vv 12 s (fun k => u k - f * r k) → J (nI (c + 1)) a1 a2 a3 a4 a5 a6 a7 a8 a9 a10 a11 s a13) : ∃ n, wX_enterBasis_50 post J (nI c) (nI f.val) m w b n 0 a1 a2 a3 a4 a5 a6 a7 a8 a9 a10 a11 a12 a13 := by
  have hf := ww_c f
  by_cases z : f = 0
  · have e : nI f.val = 0 := by rw [z]; rfl
    refine ⟨1, pk_le 12 0 (fun z => absurd z (by omega)) (fun _ => br_t e (nm_r (nI_1 c) (H a12 (fun k hk => ?_))))⟩
    rw [hu k hk]
    exact congrArg (fun t : ww_F => nI t.val) (show u k = u k - f * r k by rw [z]; grind)
  · have e : ¬ nI f.val = 0 := fun q => z (ww_inj (y := 0) q)
    refine pk_loop (fun n k s => wX_enterBasis_50 post J (nI c) (nI f.val) m w b n (nI k) a1 a2 a3 a4 a5 a6 a7 a8 a9 a10 a11 s a13) (fun k s => ww_vv 12 s (fun j => if j < k then u j - f * r j else u j)) 12 0 a12 (by omega) ?_ ?_ ?_
    · intro k hk
      exact hu k hk
    · intro n s h
      refine pk_le 12 12 (fun _ => nm_r (nI_1 c) (H s (fun k hk => ?_))) (fun z => absurd z (by omega))
      have g : s k = nI (if k < 12 then u k - f * r k else u k).val := h k hk
      rw [if_pos hk] at g
      exact g
    · intro n k s hk h hw
      have x : (12 : Int32) * nI c + nI k = nI (12 * c + k) := ww_i12 _ _
      refine pk_le 12 k (fun z => absurd z (by omega)) (fun _ => br_f e ⟨pk_in k 12 hk, pk_in (12 * c + k) 168 (by omega) x, ww_997, pk_in k 12 hk, nm_r (e' := upd s k (nI (u k - f * r k).val)) ?_ (nm_r (nI_1 k) (hw _ ?_))⟩)
      · have g : s k = nI (if k < k then u k - f * r k else u k).val := h k hk
        rw [if_neg (by omega)] at g
        rw [x, nI_clamp (by omega), nI_clamp (by omega), g, hr k hk, ww_msb]
      · refine ww_vv_up h ?_ ?_
        · exact if_pos (by omega)
        · intro j hj
          show (if j < k + 1 then u j - f * r j else u j) = (if j < k then u j - f * r j else u j)
          by_cases c : j < k
          · rw [if_pos c, if_pos (by omega)]
          · rw [if_neg c, if_neg (by omega)]
/-- the fresh row is stored -/
theorem ww_enter_149 {post : Int32 → St1 → Prop} {m w : Int32} {a1 a2 a3 a4 a5 a6 a7 a8 a9 a10 a11 a12 a13 : Nat → Int32} {n p : Nat} {i : ww_F} {u : ww_V} {R : Nat → ww_V} {pv : Nat → Nat} (hn : n < 14) (hp : p < 12) (hu : ww_vv 12 a12 u) (hB : ww_BR n R pv a9 a10)
    (H : ∀ s9 s10, ww_BR (n + 1) (ww_up R n (fun k => u k * i)) (ww_up pv n p) s9 s10 → post 1 (m, w, nI (n + 1), a1, a2, a3, a4, a5, a6, a7, a8, s9, s10, a11, a12, a13)) : ∃ f, wX_enterBasis_149 post (nI p) (nI i.val) m w (nI n) f 0 a1 a2 a3 a4 a5 a6 a7 a8 a9 a10 a11 a12 a13 := by
  refine pk_loop (fun f k s => wX_enterBasis_149 post (nI p) (nI i.val) m w (nI n) f (nI k) a1 a2 a3 a4 a5 a6 a7 a8 s a10 a11 a12 a13) (fun k s => (∀ j, j < 12 * n → s j = a9 j) ∧ (∀ j, j < k → s (12 * n + j) = nI (u j * i).val)) 12 0 a9 (by omega) ⟨fun _ _ => rfl, lt_0⟩ ?_ ?_
  · intro f s h
    refine pk_le 12 12 (fun _ => ⟨pk_in n 14 hn, nm_r (e' := upd a10 n (nI p)) (by rw [nI_clamp (by omega)]) (nm_r (nI_1 n) (H s _ ?_))⟩) (fun z => absurd z (by omega))
    intro c hc
    by_cases e : c = n
    · rw [e, ww_us, ww_us, pk_us]
      exact ⟨h.2, rfl, hp⟩
    · obtain ⟨b1, b2, b3⟩ := hB c (by omega)
      rw [ww_un e, ww_un e, pk_un e]
      refine ⟨fun k hk => ?_, b2, b3⟩
      rw [h.1 _ (by omega)]
      exact b1 k hk
  · intro f k s hk h hw
    have x : (12 : Int32) * nI n + nI k = nI (12 * n + k) := ww_i12 _ _
    refine pk_le 12 k (fun z => absurd z (by omega)) (fun _ => ⟨pk_in k 12 hk, ww_997, pk_in (12 * n + k) 168 (by omega) x, nm_r (e' := upd s (12 * n + k) (nI (u k * i).val)) ?_ (nm_r (nI_1 k) (hw _ ⟨?_, ?_⟩))⟩)
    · rw [x, nI_clamp (by omega), nI_clamp (by omega), hu k hk, ww_mul]
    · intro j hj
      rw [pk_un (by omega)]
      exact h.1 j hj
    · intro j hj
      by_cases e : j = k
      · rw [e, pk_us]
      · rw [pk_un (by omega)]
        exact h.2 j (by omega)
/-- the pivot is sought, the row stored if there is one -/
theorem ww_enter_108 {post : Int32 → St1 → Prop} {m w : Int32} {a1 a2 a3 a4 a5 a6 a7 a8 a9 a10 a11 a12 a13 : Nat → Int32} {n : Nat} {u : ww_V} {R : Nat → ww_V} {pv : Nat → Nat} (hn : n < 14) (hu : ww_vv 12 a12 u) (hB : ww_BR n R pv a9 a10)
    (H0 : (∀ k, k < 12 → u k = 0) → post 0 (m, w, nI n, a1, a2, a3, a4, a5, a6, a7, a8, a9, a10, a11, a12, a13))
    (H1 : ∀ p s9 s10, p < 12 → u p ≠ 0 → ww_BR (n + 1) (ww_up R n (fun k => u k * ww_iv (u p) 10)) (ww_up pv n p) s9 s10 → post 1 (m, w, nI (n + 1), a1, a2, a3, a4, a5, a6, a7, a8, s9, s10, a11, a12, a13)) : ∃ f, wX_enterBasis_108 post m w (nI n) a1 a2 a3 a4 a5 a6 a7 a8 a9 a10 a11 a12 a13 f 0 := by
  have hx : ∃ p, p ≤ 12 ∧ (∀ j, j < p → u j = 0) ∧ (p < 12 → u p ≠ 0) := by
    have key : ∀ N : Nat, ∃ p, p ≤ N ∧ (∀ j, j < p → u j = 0) ∧ (p < N → u p ≠ 0) := by
      intro N
      induction N with
      | zero => exact ⟨0, Nat.le_refl 0, lt_0, fun h => absurd h (by omega)⟩
      | succ N ih =>
        obtain ⟨p, h1, h2, h3⟩ := ih
        by_cases hp : p < N
        · exact ⟨p, by omega, h2, fun _ => h3 hp⟩
        · by_cases e : u p = 0
          · exact ⟨p + 1, by omega, lt_s h2 e, fun h => absurd h (by omega)⟩
          · exact ⟨p, by omega, h2, fun _ => e⟩
    exact key 12
  obtain ⟨p, h1, h2, h3⟩ := hx
  refine pk_loop (σ := Unit) (fun f k _ => wX_enterBasis_108 post m w (nI n) a1 a2 a3 a4 a5 a6 a7 a8 a9 a10 a11 a12 a13 f (nI k)) (fun _ _ => True) p 0 () (by omega) trivial ?_ ?_
  · intro f _ _
    refine pk_le 12 p (fun z => ?_) (fun z => ⟨pk_in p 12 z, br_f ?_ ?_⟩)
    · have e : p = 12 := by omega
      refine pk_eq p 12 (fun _ => H0 (fun k hk => h2 k (by omega))) (fun z => absurd e z)
    · rw [nI_clamp (by omega), hu p z]
      exact fun q => h3 z (ww_inj (y := 0) q)
    · refine pk_eq p 12 (fun e => absurd e (by omega)) (fun _ => ⟨pk_in p 12 z, ?_⟩)
      rw [nI_clamp (by omega), hu p z]
      exact ww_inverse (ww_enter_149 hn z hu hB (fun s9 s10 h => H1 p s9 s10 z (h3 z) h))
  · intro f k _ hk _ hw
    refine pk_le 12 k (fun z => absurd z (by omega)) (fun _ => ⟨pk_in k 12 (by omega), br_t ?_ (nm_r (nI_1 k) (hw () trivial))⟩)
    rw [nI_clamp (by omega), hu k (by omega), h2 k hk]
    rfl
theorem ww_enter {post : Int32 → St1 → Prop} {m w : Int32} {a1 a2 a3 a4 a5 a6 a7 a8 a9 a10 a11 a12 a13 : Nat → Int32} {n : Nat} {v : ww_V} {R : Nat → ww_V} {pv : Nat → Nat} (hn : n < 14) (hv : ww_vv 12 a11 v) (hB : ww_BR n R pv a9 a10)
    (H0 : ∀ s12, (∀ k, k < 12 → ww_rd R pv v n k = 0) → post 0 (m, w, nI n, a1, a2, a3, a4, a5, a6, a7, a8, a9, a10, a11, s12, a13))
    (H1 : ∀ p s9 s10 s12, p < 12 → ww_rd R pv v n p ≠ 0 → ww_BR (n + 1) (ww_up R n (fun k => ww_rd R pv v n k * ww_iv (ww_rd R pv v n p) 10)) (ww_up pv n p) s9 s10 → post 1 (m, w, nI (n + 1), a1, a2, a3, a4, a5, a6, a7, a8, s9, s10, a11, s12, a13)) : wpX_enterBasis post (m, w, nI n, a1, a2, a3, a4, a5, a6, a7, a8, a9, a10, a11, a12, a13) := by
  refine pk_loop (fun f i s => wX_enterBasis_2 post m w (nI n) f (nI i) a1 a2 a3 a4 a5 a6 a7 a8 a9 a10 a11 s a13) (fun i s => ∀ j, j < i → s j = a11 j) 12 0 a12 (by omega) lt_0 ?_ ?_
  · intro f s h
    refine pk_le 12 12 (fun _ => ?_) (fun z => absurd z (by omega))
    refine pk_loop (fun f c s => wX_enterBasis_28 post m w (nI n) f (nI c) a1 a2 a3 a4 a5 a6 a7 a8 a9 a10 a11 s a13) (fun c s => ww_vv 12 s (ww_rd R pv v c)) n 0 s (by omega) ?_ ?_ ?_
    · intro k hk
      rw [h k hk]
      exact hv k hk
    · intro f s h
      exact pk_le n n (fun _ => ww_enter_108 hn h hB (fun z => H0 s z) (fun p s9 s10 hp hz hb => H1 p s9 s10 s hp hz hb)) (fun z => absurd z (by omega))
    · intro f c s hc h hw
      obtain ⟨b1, b2, b3⟩ := hB c hc
      have c10 : a10 (nI c).toNatClampNeg = nI (pv c) := by rw [nI_clamp (by omega)]; exact b2
      refine pk_le n c (fun z => absurd z (by omega)) (fun _ => ⟨pk_in c 14 (by omega), pk_in (pv c) 12 b3 c10, nm_r (e' := nI (ww_rd R pv v c (pv c)).val) ?_ (ww_enter_50 (by omega) h b1 (fun s' h' => hw s' h'))⟩)
      rw [c10, nI_clamp (by omega)]
      exact h _ b3
  · intro f i s hi h hw
    exact pk_le 12 i (fun z => absurd z (by omega)) (fun _ => ⟨pk_in i 12 (by omega), pk_in i 12 (by omega), nm_r (e' := upd s i (a11 i)) (by rw [nI_clamp (by omega)]) (nm_r (nI_1 i) (hw _ (ww_fill h rfl)))⟩)
theorem ww_keep {post : St1 → Prop} {m : Int32} {a1 a2 a3 a4 a5 a6 a7 a8 a9 a10 a11 a12 a13 : Nat → Int32} {n c : Nat} {v : ww_V} {R X : Nat → ww_V} {pv cd : Nat → Nat} (hn : n < 14) (hv : ww_vv 12 a11 v) (hB : ww_BR n R pv a9 a10) (hR : ww_RW n X cd a7 a8)
    (H0 : ∀ s12, (∀ k, k < 12 → ww_rd R pv v n k = 0) → post (m, nI n, nI n, a1, a2, a3, a4, a5, a6, a7, a8, a9, a10, a11, s12, a13))
    (H1 : ∀ p s7 s8 s9 s10 s12, p < 12 → ww_rd R pv v n p ≠ 0 → ww_BR (n + 1) (ww_up R n (fun k => ww_rd R pv v n k * ww_iv (ww_rd R pv v n p) 10)) (ww_up pv n p) s9 s10 → ww_RW (n + 1) (ww_up X n v) (ww_up cd n c) s7 s8 → post (m, nI (n + 1), nI (n + 1), a1, a2, a3, a4, a5, a6, s7, s8, s9, s10, a11, s12, a13)) : wpX_keepRow post (m, nI n, nI n, a1, a2, a3, a4, a5, a6, a7, a8, a9, a10, a11, a12, a13) (nI c) := by
  unfold wpX_keepRow
  dsimp only
  refine ww_enter hn hv hB (fun s12 hz => br_t rfl (H0 s12 hz)) (fun p s9 s10 s12 hp hz hb => br_f ww_1n0 ?_)
  refine pk_loop (fun f k s => wX_keepRow_11 post (nI c) m (nI n) (nI (n + 1)) f (nI k) a1 a2 a3 a4 a5 a6 s a8 s9 s10 a11 s12 a13) (fun k s => (∀ j, j < 12 * n → s j = a7 j) ∧ (∀ j, j < k → s (12 * n + j) = nI (v j).val)) 12 0 a7 (by omega) ⟨fun _ _ => rfl, lt_0⟩ ?_ ?_
  · intro f s h
    refine pk_le 12 12 (fun _ => ⟨pk_in n 14 hn, nm_r (e' := upd a8 n (nI c)) (by rw [nI_clamp (by omega)]) (nm_r (nI_1 n) (H1 p s _ s9 s10 s12 hp hz hb ?_))⟩) (fun z => absurd z (by omega))
    intro i hi
    by_cases e : i = n
    · rw [e, ww_us, ww_us, pk_us]
      exact ⟨h.2, rfl⟩
    · obtain ⟨b1, b2⟩ := hR i (by omega)
      rw [ww_un e, ww_un e, pk_un e]
      refine ⟨fun k hk => ?_, b2⟩
      rw [h.1 _ (by omega)]
      exact b1 k hk
  · intro f k s hk h hw
    have x : (12 : Int32) * nI n + nI k = nI (12 * n + k) := ww_i12 _ _
    refine pk_le 12 k (fun z => absurd z (by omega)) (fun _ => ⟨pk_in k 12 hk, pk_in (12 * n + k) 168 (by omega) x, nm_r (e' := upd s (12 * n + k) (nI (v k).val)) ?_ (nm_r (nI_1 k) (hw _ ⟨?_, ?_⟩))⟩)
    · rw [x, nI_clamp (by omega), nI_clamp (by omega), hv k hk]
    · intro j hj
      rw [pk_un (by omega)]
      exact h.1 j hj
    · intro j hj
      by_cases e : j = k
      · rw [e, pk_us]
      · rw [pk_un (by omega)]
        exact h.2 j (by omega)
end
section
/-! the search for a word; the gathering of rows -/
def ww_SI (S : ww_V) (T : Nat → ww_V → ww_V) (E : ww_V → ww_F) (D d k l : Nat) (w b : Int32) (a7 a8 a9 a10 : Nat → Int32) : Prop :=
  ∃ (n : Nat) (R X : Nat → ww_V) (pv cd : Nat → Nat), w = nI n ∧ b = nI n ∧ k + d ≤ n ∧ ww_G S T D n k l R X pv ∧ ww_C S T E n X cd ∧ ww_BR n R pv a9 a10 ∧ ww_RW n X cd a7 a8
theorem ww_rd_z {D n : Nat} {R X : Nat → ww_V} {pv : Nat → Nat} (h : ww_Bs D n R X pv) (hD : D ≤ 12) {v : ww_V} (hv : ∀ k, D ≤ k → v k = 0) (hz : ∀ k, k < 12 → ww_rd R pv v n k = 0) (k : Nat) : ww_rd R pv v n k = 0 := by
  rcases Nat.lt_or_ge k 12 with c | c
  · exact hz k c
  · exact ww_rd_out h hv n (Nat.le_refl n) k (by omega)
theorem ww_search_46 {post : Int32 → St1 → Prop} {J : Int32 → Int32 → Int32 → Int32 → (Nat → Int32) → (Nat → Int32) → (Nat → Int32) → (Nat → Int32) → (Nat → Int32) → (Nat → Int32) → (Nat → Int32) → (Nat → Int32) → (Nat → Int32) → (Nat → Int32) → (Nat → Int32) → (Nat → Int32) → (Nat → Int32) → Prop} {m : Nat} {w b : Int32} {a1 a2 a3 a4 a5 a6 a7 a8 a9 a10 a11 a12 a13 : Nat → Int32} {sz : Nat → Nat} {st en sp sg : ww_V} {mb : Nat → Nat} {D k : Nat} (hP : ww_P sz st en sp a1 a2 a3 a4) (hN : ww_N m mb sg a5 a6) (hm : m ≤ 3) (hD : D ≤ 8) (hT : ∀ j v q, D ≤ q → ww_T sz sp m mb j v q = 0)
    (hI : ww_SI (ww_S sz st m mb sg) (ww_T sz sp m mb) (ww_E en m mb) D 1 k 0 w b a7 a8 a9 a10)
    (H : ∀ c w' b' s7 s8 s9 s10 s11 s12, ww_Q (ww_S sz st m mb sg) (ww_T sz sp m mb) (ww_E en m mb) c → post (nI c) (nI m, w', b', a1, a2, a3, a4, a5, a6, s7, s8, s9, s10, s11, s12, a13))
    (HJ : ∀ w' b' s7 s8 s9 s10 s11 s12, ww_SI (ww_S sz st m mb sg) (ww_T sz sp m mb) (ww_E en m mb) D 0 (k + 1) 0 w' b' s7 s8 s9 s10 → J (nI (k + 1)) (nI m) w' b' a1 a2 a3 a4 a5 a6 s7 s8 s9 s10 s11 s12 a13) :
    ∃ f, wX_search_46 post J (nI k) f 0 (nI m) w b a1 a2 a3 a4 a5 a6 a7 a8 a9 a10 a11 a12 a13 := by
  refine pk_loop (σ := Int32 × Int32 × (Nat → Int32) × (Nat → Int32) × (Nat → Int32) × (Nat → Int32) × (Nat → Int32) × (Nat → Int32))
    (fun f l s => wX_search_46 post J (nI k) f (nI l) (nI m) s.1 s.2.1 a1 a2 a3 a4 a5 a6 s.2.2.1 s.2.2.2.1 s.2.2.2.2.1 s.2.2.2.2.2.1 s.2.2.2.2.2.2.1 s.2.2.2.2.2.2.2 a13)
    (fun l s => ww_SI (ww_S sz st m mb sg) (ww_T sz sp m mb) (ww_E en m mb) D 1 k l s.1 s.2.1 s.2.2.1 s.2.2.2.1 s.2.2.2.2.1 s.2.2.2.2.2.1) 2 0 (w, b, a7, a8, a9, a10, a11, a12) (by omega) hI ?_ ?_
  · intro f s h
    obtain ⟨w', b', s7, s8, s9, s10, s11, s12⟩ := s
    obtain ⟨n, R, X, pv, cd, e1, e2, hn, hG, hC, hB, hR⟩ := h
    exact pk_le 2 2 (fun _ => nm_r (nI_1 k) (HJ w' b' s7 s8 s9 s10 s11 s12 ⟨n, R, X, pv, cd, e1, e2, by omega, ww_G_next hG, hC, hB, hR⟩)) (fun z => absurd z (by omega))
  · intro f l s hl h hw
    obtain ⟨w', b', s7, s8, s9, s10, s11, s12⟩ := s
    obtain ⟨n, R, X, pv, cd, e1, e2, hn, hG, hC, hB, hR⟩ := h
    have e1' : w' = nI n := e1
    have e2' : b' = nI n := e2
    subst e1' e2'
    have hnD := ww_Bs_le hG.1
    have e8 : 2 * s8 (nI k).toNatClampNeg + nI l = nI (2 * cd k + l) := by
      have h8 : s8 k = nI (cd k) := (hR k (by omega)).2
      rw [nI_clamp (by omega), h8]
      exact ww_i2 _ _
    refine pk_le 2 l (fun z => absurd z (by omega)) (fun _ => ww_takeRow hR (by omega) (by omega) (fun t ht => ww_advance hP hN hm hl ht (fun t11 t12 h11 => ww_endValue hP hN hm h11 (pk_eq (ww_E en m mb (ww_T sz sp m mb l (X k))).val 0 (fun z => ⟨pk_in k 14 (by omega), ?_⟩) (fun z => ⟨pk_in k 14 (by omega), ?_⟩) rfl rfl (ww_c _) (by omega)))))
    · have hE : ww_E en m mb (ww_T sz sp m mb l (X k)) = 0 := Fin.ext z
      show wpX_keepRow _ _ (2 * s8 (nI k).toNatClampNeg + nI l)
      rw [e8]
      refine ww_keep (by omega) h11 hB hR (fun t12 hz => nm_r (nI_1 l) (hw (nI n, nI n, s7, s8, s9, s10, t11, t12) ⟨n, R, X, pv, cd, rfl, rfl, hn, ww_G_in hG (ww_rd_z hG.1 (by omega) (hT l _) hz), hC, hB, hR⟩)) ?_
      intro p t7 t8 t9 t10 t12 hp hz hb hr
      exact nm_r (nI_1 l) (hw (nI (n + 1), nI (n + 1), t7, t8, t9, t10, t11, t12) ⟨n + 1, _, _, _, _, rfl, rfl, by omega, ww_G_add hG hT (by omega) hl (ww_inv _ hz), ww_C_add hC (by omega) hl hE, hb, hr⟩)
    · have q := ww_Q_found hG hT (ww_E_frm en m mb) hC (by omega) hl hD (fun q => z (by rw [q]; rfl))
      show post (2 * s8 (nI k).toNatClampNeg + nI l) _
      rw [e8]
      exact H _ _ _ _ _ _ _ _ _ q.1
theorem ww_search {post : Int32 → St1 → Prop} {m : Nat} {w b : Int32} {a1 a2 a3 a4 a5 a6 a7 a8 a9 a10 a11 a12 a13 : Nat → Int32} {sz : Nat → Nat} {st en sp sg : ww_V} {mb : Nat → Nat} {D : Nat} (hP : ww_P sz st en sp a1 a2 a3 a4) (hN : ww_N m mb sg a5 a6) (hm : m ≤ 3) (hD : D ≤ 8) (hS : ∀ k, D ≤ k → ww_S sz st m mb sg k = 0) (hT : ∀ j v q, D ≤ q → ww_T sz sp m mb j v q = 0)
    (H : ∀ c w' b' s7 s8 s9 s10 s11 s12, ww_Q (ww_S sz st m mb sg) (ww_T sz sp m mb) (ww_E en m mb) c → post (nI c) (nI m, w', b', a1, a2, a3, a4, a5, a6, s7, s8, s9, s10, s11, s12, a13)) :
    wpX_search post (nI m, w, b, a1, a2, a3, a4, a5, a6, a7, a8, a9, a10, a11, a12, a13) := by
  have hO : ∀ w' b' s7 s8 s9 s10 s11 s12, ww_SI (ww_S sz st m mb sg) (ww_T sz sp m mb) (ww_E en m mb) D 0 0 0 w' b' s7 s8 s9 s10 → ∃ f, wX_search_30 post f 0 (nI m) w' b' a1 a2 a3 a4 a5 a6 s7 s8 s9 s10 s11 s12 a13 := by
    intro w b a7 a8 a9 a10 a11 a12 hI
    refine pk_loop (σ := Int32 × Int32 × (Nat → Int32) × (Nat → Int32) × (Nat → Int32) × (Nat → Int32) × (Nat → Int32) × (Nat → Int32))
      (fun f k s => wX_search_30 post f (nI k) (nI m) s.1 s.2.1 a1 a2 a3 a4 a5 a6 s.2.2.1 s.2.2.2.1 s.2.2.2.2.1 s.2.2.2.2.2.1 s.2.2.2.2.2.2.1 s.2.2.2.2.2.2.2 a13)
      (fun k s => ww_SI (ww_S sz st m mb sg) (ww_T sz sp m mb) (ww_E en m mb) D 0 k 0 s.1 s.2.1 s.2.2.1 s.2.2.2.1 s.2.2.2.2.1 s.2.2.2.2.2.1) 8 0 (w, b, a7, a8, a9, a10, a11, a12) (by omega) hI ?_ ?_
    · intro f s h
      obtain ⟨w', b', s7, s8, s9, s10, s11, s12⟩ := s
      obtain ⟨n, R, X, pv, cd, e1, e2, hn, hG, hC, hB, hR⟩ := h
      have hnD := ww_Bs_le hG.1
      have hn8 : 8 = n := by omega
      have e1' : w' = nI n := e1
      refine pk_le 12 8 (fun z => absurd z (by omega)) (fun _ => pk_le n 8 (fun _ => H 0 w' b' s7 s8 s9 s10 s11 s12 ?_) (fun z => absurd z (by omega)) e1' rfl (by omega) (by omega))
      rw [hn8] at hG
      exact ww_Q_none hG (fun l _ => ww_T_lin sz sp m mb l) (ww_E_frm en m mb) hC
    · intro f k s hk h hw
      obtain ⟨w', b', s7, s8, s9, s10, s11, s12⟩ := s
      obtain ⟨n, R, X, pv, cd, e1, e2, hn, hG, hC, hB, hR⟩ := h
      have hnD := ww_Bs_le hG.1
      have e1' : w' = nI n := e1
      have e2' : b' = nI n := e2
      refine pk_le 12 k (fun z => absurd z (by omega)) (fun _ => pk_le n k (fun z => H 0 w' b' s7 s8 s9 s10 s11 s12 ?_) (fun z => ?_) e1' rfl (by omega) (by omega))
      · have hkn : k = n := by omega
        rw [hkn] at hG
        exact ww_Q_none hG (fun l _ => ww_T_lin sz sp m mb l) (ww_E_frm en m mb) hC
      · exact ww_search_46 hP hN hm hD hT ⟨n, R, X, pv, cd, e1', e2', by omega, hG, hC, hB, hR⟩ H (fun w' b' s7 s8 s9 s10 s11 s12 h => hw (w', b', s7, s8, s9, s10, s11, s12) h)
  unfold wpX_search
  dsimp only
  refine ww_startRow (w := 0) (b := 0) hP hN hm (fun s hs => ww_endValue hP hN hm hs (pk_eq (ww_E en m mb (ww_S sz st m mb sg)).val 0 (fun z => ?_) (fun z => ?_) rfl rfl (ww_c _) (by omega)))
  · have hE : ww_E en m mb (ww_S sz st m mb sg) = 0 := Fin.ext z
    refine ww_keep (n := 0) (c := 1) (R := fun _ _ => 0) (X := fun _ _ => 0) (pv := fun _ => 0) (cd := fun _ => 0) (by omega) hs (fun c h => absurd h (by omega)) (fun c h => absurd h (by omega)) (fun t12 hz => hO _ _ _ _ _ _ _ _ ?_) (fun p t7 t8 t9 t10 t12 hp hz hb hr => hO _ _ _ _ _ _ _ _ ?_)
    · refine ⟨0, fun _ _ => 0, fun _ _ => 0, fun _ => 0, fun _ => 0, rfl, rfl, by omega, ww_G0 (fun k => ?_), ww_C0, fun c h => absurd h (by omega), fun c h => absurd h (by omega)⟩
      rcases Nat.lt_or_ge k 12 with c | c
      · exact hz k c
      · exact hS k (by omega)
    · exact ⟨1, _, _, _, _, rfl, rfl, by omega, ww_G1 hS (ww_inv _ hz), ww_C1 hE, hb, hr⟩
  · exact H 1 _ _ _ _ _ _ _ _ (ww_Q_1 (fun q => z (by rw [q]; rfl)))
end
section
/-! rows gathered, columns gathered -/
def ww_GI (S : ww_V) (T : Nat → ww_V → ww_V) (D d k l : Nat) (w b : Int32) (a7 a8 a9 a10 : Nat → Int32) : Prop :=
  ∃ (n : Nat) (R X : Nat → ww_V) (pv cd : Nat → Nat), w = nI n ∧ b = nI n ∧ k + d ≤ n ∧ ww_G S T D n k l R X pv ∧ ww_BR n R pv a9 a10 ∧ ww_RW n X cd a7 a8
theorem ww_gather_37 {post : St1 → Prop} {J : Int32 → Int32 → Int32 → Int32 → (Nat → Int32) → (Nat → Int32) → (Nat → Int32) → (Nat → Int32) → (Nat → Int32) → (Nat → Int32) → (Nat → Int32) → (Nat → Int32) → (Nat → Int32) → (Nat → Int32) → (Nat → Int32) → (Nat → Int32) → (Nat → Int32) → Prop} {m : Nat} {w b : Int32} {a1 a2 a3 a4 a5 a6 a7 a8 a9 a10 a11 a12 a13 : Nat → Int32} {sz : Nat → Nat} {st en sp sg : ww_V} {mb : Nat → Nat} {D k : Nat} (hP : ww_P sz st en sp a1 a2 a3 a4) (hN : ww_N m mb sg a5 a6) (hm : m ≤ 3) (hD : D ≤ 8) (hT : ∀ j v q, D ≤ q → ww_T sz sp m mb j v q = 0)
    (hI : ww_GI (ww_S sz st m mb sg) (ww_T sz sp m mb) D 1 k 0 w b a7 a8 a9 a10)
    (HJ : ∀ w' b' s7 s8 s9 s10 s11 s12, ww_GI (ww_S sz st m mb sg) (ww_T sz sp m mb) D 0 (k + 1) 0 w' b' s7 s8 s9 s10 → J (nI (k + 1)) (nI m) w' b' a1 a2 a3 a4 a5 a6 s7 s8 s9 s10 s11 s12 a13) :
    ∃ f, wX_gather_37 post J (nI k) f 0 (nI m) w b a1 a2 a3 a4 a5 a6 a7 a8 a9 a10 a11 a12 a13 := by
  refine pk_loop (σ := Int32 × Int32 × (Nat → Int32) × (Nat → Int32) × (Nat → Int32) × (Nat → Int32) × (Nat → Int32) × (Nat → Int32))
    (fun f l s => wX_gather_37 post J (nI k) f (nI l) (nI m) s.1 s.2.1 a1 a2 a3 a4 a5 a6 s.2.2.1 s.2.2.2.1 s.2.2.2.2.1 s.2.2.2.2.2.1 s.2.2.2.2.2.2.1 s.2.2.2.2.2.2.2 a13)
    (fun l s => ww_GI (ww_S sz st m mb sg) (ww_T sz sp m mb) D 1 k l s.1 s.2.1 s.2.2.1 s.2.2.2.1 s.2.2.2.2.1 s.2.2.2.2.2.1) 2 0 (w, b, a7, a8, a9, a10, a11, a12) (by omega) hI ?_ ?_
  · intro f s h
    obtain ⟨w', b', s7, s8, s9, s10, s11, s12⟩ := s
    obtain ⟨n, R, X, pv, cd, e1, e2, hn, hG, hB, hR⟩ := h
    exact pk_le 2 2 (fun _ => nm_r (nI_1 k) (HJ w' b' s7 s8 s9 s10 s11 s12 ⟨n, R, X, pv, cd, e1, e2, by omega, ww_G_next hG, hB, hR⟩)) (fun z => absurd z (by omega))
  · intro f l s hl h hw
    obtain ⟨w', b', s7, s8, s9, s10, s11, s12⟩ := s
    obtain ⟨n, R, X, pv, cd, e1, e2, hn, hG, hB, hR⟩ := h
    have e1' : w' = nI n := e1
    have e2' : b' = nI n := e2
    subst e1' e2'
    have hnD := ww_Bs_le hG.1
    have e8 : 2 * s8 (nI k).toNatClampNeg + nI l = nI (2 * cd k + l) := by
      have h8 : s8 k = nI (cd k) := (hR k (by omega)).2
      rw [nI_clamp (by omega), h8]
      exact ww_i2 _ _
    refine pk_le 2 l (fun z => absurd z (by omega)) (fun _ => ww_takeRow hR (by omega) (by omega) (fun t ht => ww_advance hP hN hm hl ht (fun t11 t12 h11 => ⟨pk_in k 14 (by omega), ?_⟩)))
    show wpX_keepRow _ _ (2 * s8 (nI k).toNatClampNeg + nI l)
    rw [e8]
    refine ww_keep (by omega) h11 hB hR (fun t12 hz => nm_r (nI_1 l) (hw (nI n, nI n, s7, s8, s9, s10, t11, t12) ⟨n, R, X, pv, cd, rfl, rfl, hn, ww_G_in hG (ww_rd_z hG.1 (by omega) (hT l _) hz), hB, hR⟩)) ?_
    intro p t7 t8 t9 t10 t12 hp hz hb hr
    exact nm_r (nI_1 l) (hw (nI (n + 1), nI (n + 1), t7, t8, t9, t10, t11, t12) ⟨n + 1, _, _, _, _, rfl, rfl, by omega, ww_G_add hG hT (by omega) hl (ww_inv _ hz), hb, hr⟩)
theorem ww_gather {post : St1 → Prop} {m : Nat} {w b : Int32} {a1 a2 a3 a4 a5 a6 a7 a8 a9 a10 a11 a12 a13 : Nat → Int32} {sz : Nat → Nat} {st en sp sg : ww_V} {mb : Nat → Nat} {D : Nat} (hP : ww_P sz st en sp a1 a2 a3 a4) (hN : ww_N m mb sg a5 a6) (hm : m ≤ 3) (hD : D ≤ 8) (hS : ∀ k, D ≤ k → ww_S sz st m mb sg k = 0) (hT : ∀ j v q, D ≤ q → ww_T sz sp m mb j v q = 0)
    (H : ∀ (n : Nat) (R X : Nat → ww_V) (pv cd : Nat → Nat) (s7 s8 s9 s10 s11 s12 : Nat → Int32), ww_G (ww_S sz st m mb sg) (ww_T sz sp m mb) D n n 0 R X pv → ww_RW n X cd s7 s8 → post (nI m, nI n, nI n, a1, a2, a3, a4, a5, a6, s7, s8, s9, s10, s11, s12, a13)) :
    wpX_gather post (nI m, w, b, a1, a2, a3, a4, a5, a6, a7, a8, a9, a10, a11, a12, a13) := by
  have hO : ∀ w' b' s7 s8 s9 s10 s11 s12, ww_GI (ww_S sz st m mb sg) (ww_T sz sp m mb) D 0 0 0 w' b' s7 s8 s9 s10 → ∃ f, wX_gather_21 post f 0 (nI m) w' b' a1 a2 a3 a4 a5 a6 s7 s8 s9 s10 s11 s12 a13 := by
    intro w b a7 a8 a9 a10 a11 a12 hI
    refine pk_loop (σ := Int32 × Int32 × (Nat → Int32) × (Nat → Int32) × (Nat → Int32) × (Nat → Int32) × (Nat → Int32) × (Nat → Int32))
      (fun f k s => wX_gather_21 post f (nI k) (nI m) s.1 s.2.1 a1 a2 a3 a4 a5 a6 s.2.2.1 s.2.2.2.1 s.2.2.2.2.1 s.2.2.2.2.2.1 s.2.2.2.2.2.2.1 s.2.2.2.2.2.2.2 a13)
      (fun k s => ww_GI (ww_S sz st m mb sg) (ww_T sz sp m mb) D 0 k 0 s.1 s.2.1 s.2.2.1 s.2.2.2.1 s.2.2.2.2.1 s.2.2.2.2.2.1) 8 0 (w, b, a7, a8, a9, a10, a11, a12) (by omega) hI ?_ ?_
    · intro f s h
      obtain ⟨w', b', s7, s8, s9, s10, s11, s12⟩ := s
      obtain ⟨n, R, X, pv, cd, e1, e2, hn, hG, hB, hR⟩ := h
      have hnD := ww_Bs_le hG.1
      have hn8 : 8 = n := by omega
      have e1' : w' = nI n := e1
      have e2' : b' = nI n := e2
      subst e1' e2'
      rw [hn8] at hG
      exact pk_le 12 8 (fun z => absurd z (by omega)) (fun _ => pk_le n 8 (fun _ => H n R X pv cd s7 s8 s9 s10 s11 s12 hG hR) (fun z => absurd z (by omega)) rfl rfl (by omega) (by omega))
    · intro f k s hk h hw
      obtain ⟨w', b', s7, s8, s9, s10, s11, s12⟩ := s
      obtain ⟨n, R, X, pv, cd, e1, e2, hn, hG, hB, hR⟩ := h
      have hnD := ww_Bs_le hG.1
      have e1' : w' = nI n := e1
      have e2' : b' = nI n := e2
      subst e1' e2'
      refine pk_le 12 k (fun z => absurd z (by omega)) (fun _ => pk_le n k (fun z => ?_) (fun z => ?_) rfl rfl (by omega) (by omega))
      · have hkn : k = n := by omega
        rw [hkn] at hG
        exact H n R X pv cd s7 s8 s9 s10 s11 s12 hG hR
      · exact ww_gather_37 hP hN hm hD hT ⟨n, R, X, pv, cd, rfl, rfl, by omega, hG, hB, hR⟩ (fun w' b' s7 s8 s9 s10 s11 s12 h => hw (w', b', s7, s8, s9, s10, s11, s12) h)
  unfold wpX_gather
  dsimp only
  refine ww_startRow (w := 0) (b := 0) hP hN hm (fun s hs => ?_)
  refine ww_keep (n := 0) (c := 1) (R := fun _ _ => 0) (X := fun _ _ => 0) (pv := fun _ => 0) (cd := fun _ => 0) (by omega) hs (fun c h => absurd h (by omega)) (fun c h => absurd h (by omega)) (fun t12 hz => hO _ _ _ _ _ _ _ _ ?_) (fun p t7 t8 t9 t10 t12 hp hz hb hr => hO _ _ _ _ _ _ _ _ ?_)
  · refine ⟨0, fun _ _ => 0, fun _ _ => 0, fun _ => 0, fun _ => 0, rfl, rfl, by omega, ww_G0 (fun k => ?_), fun c h => absurd h (by omega), fun c h => absurd h (by omega)⟩
    rcases Nat.lt_or_ge k 12 with c | c
    · exact hz k c
    · exact hS k (by omega)
  · exact ⟨1, _, _, _, _, rfl, rfl, by omega, ww_G1 hS (ww_inv _ hz), hb, hr⟩
theorem ww_ps_ext {f : Nat → ww_F} {n : Nat} : ∀ m, n ≤ m → (∀ k, n ≤ k → k < m → f k = 0) → ww_ps f m = ww_ps f n := by
  intro m
  induction m with
  | zero =>
    intro h _
    have e : n = 0 := by omega
    rw [e]
  | succ m ih =>
    intro h hz
    by_cases e : n = m + 1
    · rw [e]
    · show ww_ps f m + f m = ww_ps f n
      rw [ih (by omega) (fun k h1 h2 => hz k h1 (by omega)), hz m (by omega) (by omega)]
      grind
/-- one step back: a place p of the new column -/
theorem ww_back_36 {post : St1 → Prop} {J : Int32 → (Nat → Int32) → (Nat → Int32) → (Nat → Int32) → (Nat → Int32) → (Nat → Int32) → (Nat → Int32) → (Nat → Int32) → (Nat → Int32) → (Nat → Int32) → (Nat → Int32) → (Nat → Int32) → (Nat → Int32) → (Nat → Int32) → Prop} {m w b : Int32} {a1 a2 a3 a4 a5 a6 a7 a8 a9 a10 a11 a12 a13 : Nat → Int32} {sz : Nat → Nat} {st en sp : ww_V} {a l p : Nat} {u v : ww_V} (hP : ww_P sz st en sp a1 a2 a3 a4) (ha : a < 3) (hp : p < sz a) (hl : l < 2) (hv : ww_vv 12 a11 v) (hu : ww_vv 12 a12 u) (h0 : u p = 0)
    (H : ∀ s, ww_vv 12 s (fun j => if j = p then ww_U sz sp a l v p else u j) → J (nI (p + 1)) a1 a2 a3 a4 a5 a6 a7 a8 a9 a10 a11 s a13) : ∃ n, wX_stepBack_36 post J (nI a) (nI l) (nI p) m w b n 0 a1 a2 a3 a4 a5 a6 a7 a8 a9 a10 a11 a12 a13 := by
  obtain ⟨p1, p2, p3, p4⟩ := hP
  obtain ⟨z1, z2, z3⟩ := p1 a ha
  have c1 : a1 (nI a).toNatClampNeg = nI (sz a) := by rw [nI_clamp (by omega)]; exact z1
  refine pk_loop (fun n q s => wX_stepBack_36 post J (nI a) (nI l) (nI p) m w b n (nI q) a1 a2 a3 a4 a5 a6 a7 a8 a9 a10 a11 s a13) (fun q s => ww_vv 12 s (fun j => if j = p then ww_ps (fun q => ww_M sz sp a l p q * v q) q else u j)) (sz a) 0 a12 (by omega) ?_ ?_ ?_
  · intro j hj
    rw [hu j hj]
    show nI (u j).val = nI (if j = p then 0 else u j).val
    by_cases c : j = p
    · rw [if_pos c, c, h0]
    · rw [if_neg c]
  · intro n s h
    refine And.intro (pk_in a 3 ha) (pk_le (sz a) (sz a) (fun _ => nm_r (nI_1 p) (H s ?_)) (fun z => absurd z (by omega)) c1 rfl (by omega) (by omega))
    have e : ww_U sz sp a l v p = ww_ps (fun q => ww_M sz sp a l p q * v q) (sz a) := by
      refine ww_ps_ext 4 (by omega) (fun k h1 h2 => ?_)
      have g : ww_M sz sp a l p k = 0 := if_neg (fun z => absurd z.2 (by omega))
      show ww_M sz sp a l p k * v k = 0
      rw [g]
      grind
    rw [e]
    exact h
  · intro n q s hq h hw
    have x4 : (32 : Int32) * nI a + 16 * nI l + 4 * nI p + nI q = nI (32 * a + 16 * l + 4 * p + q) := ww_i96 _ _ _ _
    have g : s p = nI (if p = p then ww_ps (fun q => ww_M sz sp a l p q * v q) q else u p).val := h p (by omega)
    rw [if_pos rfl] at g
    have eM : ww_M sz sp a l p q = sp (32 * a + 16 * l + 4 * p + q) := if_pos ⟨hp, hq⟩
    refine And.intro (pk_in a 3 ha) (pk_le (sz a) q (fun z => absurd z (by omega)) (fun _ => ⟨pk_in p 12 (by omega), pk_in (32 * a + 16 * l + 4 * p + q) 96 (by omega) x4, pk_in q 12 (by omega), ww_997, pk_in p 12 (by omega), nm_r (e' := upd s p (nI (ww_ps (fun q => ww_M sz sp a l p q * v q) (q + 1)).val)) ?_ (nm_r (nI_1 q) (hw _ ?_))⟩) c1 rfl (by omega) (by omega))
    · rw [x4, nI_clamp (by omega), nI_clamp (by omega), nI_clamp (by omega), g, p4 _ (by omega), hv q (by omega), ww_mad, ← eM]
      rfl
    · refine ww_vv_up h (if_pos rfl) (fun j hj => ?_)
      show (if j = p then _ else u j) = (if j = p then _ else u j)
      rw [if_neg hj, if_neg hj]
theorem ww_stepBack {post : St1 → Prop} {m w b : Int32} {a1 a2 a3 a4 a5 a6 a7 a8 a9 a10 a11 a12 a13 : Nat → Int32} {sz : Nat → Nat} {st en sp : ww_V} {a l : Nat} {v : ww_V} (hP : ww_P sz st en sp a1 a2 a3 a4) (ha : a < 3) (hl : l < 2) (hv : ww_vv 12 a11 v)
    (H : ∀ s t, ww_vv 12 s (ww_U sz sp a l v) → post (m, w, b, a1, a2, a3, a4, a5, a6, a7, a8, a9, a10, s, t, a13)) : wpX_stepBack post (m, w, b, a1, a2, a3, a4, a5, a6, a7, a8, a9, a10, a11, a12, a13) (nI a) (nI l) := by
  obtain ⟨z1, z2, z3⟩ := hP.1 a ha
  have c1 : a1 (nI a).toNatClampNeg = nI (sz a) := by rw [nI_clamp (by omega)]; exact z1
  refine pk_loop (fun n i s => wX_stepBack_2 post (nI a) (nI l) m w b n (nI i) a1 a2 a3 a4 a5 a6 a7 a8 a9 a10 a11 s a13) (fun i s => ∀ j, j < i → s j = 0) 12 0 a12 (by omega) lt_0 ?_ ?_
  · intro n s h
    refine pk_le 12 12 (fun _ => ?_) (fun z => absurd z (by omega))
    refine pk_loop (fun n p s => wX_stepBack_23 post (nI a) (nI l) m w b n (nI p) a1 a2 a3 a4 a5 a6 a7 a8 a9 a10 a11 s a13) (fun p s => ww_vv 12 s (fun j => if j < p then ww_U sz sp a l v j else 0)) (sz a) 0 s (by omega) ?_ ?_ ?_
    · intro k hk
      rw [h k hk]
      rfl
    · intro n t ht
      refine And.intro (pk_in a 3 ha) (pk_le (sz a) (sz a) (fun _ => ?_) (fun z => absurd z (by omega)) c1 rfl (by omega) (by omega))
      refine pk_loop (fun n i s => wX_stepBack_107 post m w b n (nI i) a1 a2 a3 a4 a5 a6 a7 a8 a9 a10 s t a13) (fun i s => ∀ j, j < i → s j = t j) 12 0 a11 (by omega) lt_0 ?_ ?_
      · intro n s h
        refine pk_le 12 12 (fun _ => H s t (fun k hk => ?_)) (fun z => absurd z (by omega))
        have g : t k = nI (if k < sz a then ww_U sz sp a l v k else 0).val := ht k hk
        rw [h k hk, g]
        by_cases c : k < sz a
        · rw [if_pos c]
        · rw [if_neg c, ww_U_o l v k (by omega)]
      · intro n i s hi h hw
        exact pk_le 12 i (fun z => absurd z (by omega)) (fun _ => ⟨pk_in i 12 (by omega), pk_in i 12 (by omega), nm_r (e' := upd s i (t i)) (by rw [nI_clamp (by omega)]) (nm_r (nI_1 i) (hw _ (ww_fill h rfl)))⟩)
    · intro n p t hp ht hw
      refine And.intro (pk_in a 3 ha) (pk_le (sz a) p (fun z => absurd z (by omega)) (fun _ => ww_back_36 hP ha hp hl hv ht (if_neg (by omega)) (fun s hs => hw s (fun j hj => ?_))) c1 rfl (by omega) (by omega))
      have g : s j = nI (if j = p then ww_U sz sp a l v p else if j < p then ww_U sz sp a l v j else 0).val := hs j hj
      rw [g]
      show _ = nI (if j < p + 1 then ww_U sz sp a l v j else 0).val
      by_cases c : j = p
      · rw [if_pos c, if_pos (by omega), c]
      · rw [if_neg c]
        by_cases d : j < p
        · rw [if_pos d, if_pos (by omega)]
        · rw [if_neg d, if_neg (by omega)]
  · intro n i s hi h hw
    exact pk_le 12 i (fun z => absurd z (by omega)) (fun _ => ⟨pk_in i 12 (by omega), nm_r (e' := upd s i 0) (by rw [nI_clamp (by omega)]) (nm_r (nI_1 i) (hw _ (ww_fill (f := fun _ => 0) h rfl)))⟩)
theorem ww_back_77 {post : St1 → Prop} {J : Int32 → Int32 → Int32 → Int32 → (Nat → Int32) → (Nat → Int32) → (Nat → Int32) → (Nat → Int32) → (Nat → Int32) → (Nat → Int32) → (Nat → Int32) → (Nat → Int32) → (Nat → Int32) → (Nat → Int32) → (Nat → Int32) → (Nat → Int32) → (Nat → Int32) → Prop} {m : Int32} {w b : Int32} {a1 a2 a3 a4 a5 a6 a7 a8 a9 a10 a11 a12 a13 : Nat → Int32} {sz : Nat → Nat} {st en sp : ww_V} {a k : Nat} (hP : ww_P sz st en sp a1 a2 a3 a4) (ha : a < 3)
    (hI : ww_GI (ww_e sz en a) (ww_U sz sp a) (sz a) 1 k 0 w b a7 a8 a9 a10)
    (HJ : ∀ w' b' s7 s8 s9 s10 s11 s12, ww_GI (ww_e sz en a) (ww_U sz sp a) (sz a) 0 (k + 1) 0 w' b' s7 s8 s9 s10 → J (nI (k + 1)) m w' b' a1 a2 a3 a4 a5 a6 s7 s8 s9 s10 s11 s12 a13) :
    ∃ f, wX_gatherBack_77 post J (nI a) (nI k) f 0 m w b a1 a2 a3 a4 a5 a6 a7 a8 a9 a10 a11 a12 a13 := by
  obtain ⟨z1, z2, z3⟩ := hP.1 a ha
  refine pk_loop (σ := Int32 × Int32 × (Nat → Int32) × (Nat → Int32) × (Nat → Int32) × (Nat → Int32) × (Nat → Int32) × (Nat → Int32))
    (fun f l s => wX_gatherBack_77 post J (nI a) (nI k) f (nI l) m s.1 s.2.1 a1 a2 a3 a4 a5 a6 s.2.2.1 s.2.2.2.1 s.2.2.2.2.1 s.2.2.2.2.2.1 s.2.2.2.2.2.2.1 s.2.2.2.2.2.2.2 a13)
    (fun l s => ww_GI (ww_e sz en a) (ww_U sz sp a) (sz a) 1 k l s.1 s.2.1 s.2.2.1 s.2.2.2.1 s.2.2.2.2.1 s.2.2.2.2.2.1) 2 0 (w, b, a7, a8, a9, a10, a11, a12) (by omega) hI ?_ ?_
  · intro f s h
    obtain ⟨w', b', s7, s8, s9, s10, s11, s12⟩ := s
    obtain ⟨n, R, X, pv, cd, e1, e2, hn, hG, hB, hR⟩ := h
    exact pk_le 2 2 (fun _ => nm_r (nI_1 k) (HJ w' b' s7 s8 s9 s10 s11 s12 ⟨n, R, X, pv, cd, e1, e2, by omega, ww_G_next hG, hB, hR⟩)) (fun z => absurd z (by omega))
  · intro f l s hl h hw
    obtain ⟨w', b', s7, s8, s9, s10, s11, s12⟩ := s
    obtain ⟨n, R, X, pv, cd, e1, e2, hn, hG, hB, hR⟩ := h
    have e1' : w' = nI n := e1
    have e2' : b' = nI n := e2
    subst e1' e2'
    have hnD := ww_Bs_le hG.1
    refine pk_le 2 l (fun z => absurd z (by omega)) (fun _ => ww_takeRow hR (by omega) (by omega) (fun t ht => ww_stepBack hP ha hl ht (fun t11 t12 h11 => ww_keep (c := 1) (by omega) h11 hB hR (fun t12 hz => nm_r (nI_1 l) (hw (nI n, nI n, s7, s8, s9, s10, t11, t12) ⟨n, R, X, pv, cd, rfl, rfl, hn, ww_G_in hG (ww_rd_z hG.1 (by omega) (ww_U_o l _) hz), hB, hR⟩)) ?_)))
    intro p t7 t8 t9 t10 t12 hp hz hb hr
    exact nm_r (nI_1 l) (hw (nI (n + 1), nI (n + 1), t7, t8, t9, t10, t11, t12) ⟨n + 1, _, _, _, _, rfl, rfl, by omega, ww_G_add hG ww_U_o (by omega) hl (ww_inv _ hz), hb, hr⟩)
theorem ww_gatherBack {post : St1 → Prop} {m : Int32} {w b : Int32} {a1 a2 a3 a4 a5 a6 a7 a8 a9 a10 a11 a12 a13 : Nat → Int32} {sz : Nat → Nat} {st en sp : ww_V} {a : Nat} (hP : ww_P sz st en sp a1 a2 a3 a4) (ha : a < 3)
    (H : ∀ (n : Nat) (R X : Nat → ww_V) (pv cd : Nat → Nat) (s7 s8 s9 s10 s11 s12 : Nat → Int32), ww_G (ww_e sz en a) (ww_U sz sp a) (sz a) n n 0 R X pv → ww_RW n X cd s7 s8 → post (m, nI n, nI n, a1, a2, a3, a4, a5, a6, s7, s8, s9, s10, s11, s12, a13)) :
    wpX_gatherBack post (m, w, b, a1, a2, a3, a4, a5, a6, a7, a8, a9, a10, a11, a12, a13) (nI a) := by
  obtain ⟨z1, z2, z3⟩ := hP.1 a ha
  have c1 : a1 (nI a).toNatClampNeg = nI (sz a) := by rw [nI_clamp (by omega)]; exact z1
  have hO : ∀ w' b' s7 s8 s9 s10 s11 s12, ww_GI (ww_e sz en a) (ww_U sz sp a) (sz a) 0 0 0 w' b' s7 s8 s9 s10 → ∃ f, wX_gatherBack_61 post (nI a) f 0 m w' b' a1 a2 a3 a4 a5 a6 s7 s8 s9 s10 s11 s12 a13 := by
    intro w b a7 a8 a9 a10 a11 a12 hI
    refine pk_loop (σ := Int32 × Int32 × (Nat → Int32) × (Nat → Int32) × (Nat → Int32) × (Nat → Int32) × (Nat → Int32) × (Nat → Int32))
      (fun f k s => wX_gatherBack_61 post (nI a) f (nI k) m s.1 s.2.1 a1 a2 a3 a4 a5 a6 s.2.2.1 s.2.2.2.1 s.2.2.2.2.1 s.2.2.2.2.2.1 s.2.2.2.2.2.2.1 s.2.2.2.2.2.2.2 a13)
      (fun k s => ww_GI (ww_e sz en a) (ww_U sz sp a) (sz a) 0 k 0 s.1 s.2.1 s.2.2.1 s.2.2.2.1 s.2.2.2.2.1 s.2.2.2.2.2.1) 8 0 (w, b, a7, a8, a9, a10, a11, a12) (by omega) hI ?_ ?_
    · intro f s h
      obtain ⟨w', b', s7, s8, s9, s10, s11, s12⟩ := s
      obtain ⟨n, R, X, pv, cd, e1, e2, hn, hG, hB, hR⟩ := h
      have hnD := ww_Bs_le hG.1
      exact absurd hnD (by omega)
    · intro f k s hk h hw
      obtain ⟨w', b', s7, s8, s9, s10, s11, s12⟩ := s
      obtain ⟨n, R, X, pv, cd, e1, e2, hn, hG, hB, hR⟩ := h
      have hnD := ww_Bs_le hG.1
      have e1' : w' = nI n := e1
      have e2' : b' = nI n := e2
      subst e1' e2'
      refine pk_le 12 k (fun z => absurd z (by omega)) (fun _ => pk_le n k (fun z => ?_) (fun z => ?_) rfl rfl (by omega) (by omega))
      · have hkn : k = n := by omega
        rw [hkn] at hG
        exact H n R X pv cd s7 s8 s9 s10 s11 s12 hG hR
      · exact ww_back_77 hP ha ⟨n, R, X, pv, cd, rfl, rfl, by omega, hG, hB, hR⟩ (fun w' b' s7 s8 s9 s10 s11 s12 h => hw (w', b', s7, s8, s9, s10, s11, s12) h)
  refine pk_loop (fun n i s => wX_gatherBack_12 post (nI a) m 0 0 n (nI i) a1 a2 a3 a4 a5 a6 a7 a8 a9 a10 s a12 a13) (fun i s => ∀ j, j < i → s j = nI (ww_e sz en a j).val) 12 0 a11 (by omega) lt_0 ?_ ?_
  · intro n s hs
    refine pk_le 12 12 (fun _ => ?_) (fun z => absurd z (by omega))
    refine ww_keep (n := 0) (c := 1) (v := ww_e sz en a) (R := fun _ _ => 0) (X := fun _ _ => 0) (pv := fun _ => 0) (cd := fun _ => 0) (by omega) hs (fun c h => absurd h (by omega)) (fun c h => absurd h (by omega)) (fun t12 hz => hO _ _ _ _ _ _ _ _ ?_) (fun p t7 t8 t9 t10 t12 hp hz hb hr => hO _ _ _ _ _ _ _ _ ?_)
    · refine ⟨0, fun _ _ => 0, fun _ _ => 0, fun _ => 0, fun _ => 0, rfl, rfl, by omega, ww_G0 (fun k => ?_), fun c h => absurd h (by omega), fun c h => absurd h (by omega)⟩
      rcases Nat.lt_or_ge k 12 with c | c
      · exact hz k c
      · exact ww_e_o (by omega)
    · exact ⟨1, _, _, _, _, rfl, rfl, by omega, ww_G1 (fun k hk => ww_e_o hk) (ww_inv _ hz), hb, hr⟩
  · intro n i s hi h hw
    have x : (4 : Int32) * nI a + nI i = nI (4 * a + i) := ww_i4 _ _
    refine pk_le 12 i (fun z => absurd z (by omega)) (fun _ => ⟨pk_in a 3 ha, pk_le (sz a) i (fun z => ⟨pk_in i 12 hi, nm_r (e' := upd s i 0) (by rw [nI_clamp (by omega)]) (nm_r (nI_1 i) (hw _ (ww_fill (f := fun j => nI (ww_e sz en a j).val) h ?_)))⟩) (fun z => ⟨pk_in (4 * a + i) 12 (by omega) x, pk_in i 12 hi, nm_r (e' := upd s i (nI (ww_e sz en a i).val)) ?_ (nm_r (nI_1 i) (hw _ (ww_fill (f := fun j => nI (ww_e sz en a j).val) h rfl)))⟩) c1 rfl (by omega) (by omega)⟩)
    · show 0 = nI (ww_e sz en a i).val
      rw [ww_e_o z]
      rfl
    · have e : ww_e sz en a i = en (4 * a + i) := if_pos z
      rw [x, nI_clamp (by omega), nI_clamp (by omega), hP.2.2.1 _ (by omega), e]
end
section
/-! the questions: weight, difference, equivalent, first -/
def ww_Q2 (sz : Nat → Nat) (st en sp : ww_V) (a c r : Nat) : Prop :=
  (r = 0 ∧ ∀ d, 1 ≤ d → ww_W sz st en sp a d = ww_W sz st en sp c d) ∨ (1 ≤ r ∧ r ≤ 255 ∧ ww_W sz st en sp a r ≠ ww_W sz st en sp c r)
def ww_Q1 (sz : Nat → Nat) (st en sp : ww_V) (a r : Nat) : Prop :=
  (r = 0 ∧ ∀ d, 1 ≤ d → ww_W sz st en sp a d = 0) ∨ (1 ≤ r ∧ r ≤ 255 ∧ ww_W sz st en sp a r ≠ 0)
theorem ww_Q_2 {sz : Nat → Nat} {st en sp : ww_V} {a c r : Nat} (h : ww_Q (ww_S sz st 2 (ww_mb2 a c) ww_sg2) (ww_T sz sp 2 (ww_mb2 a c)) (ww_E en 2 (ww_mb2 a c)) r) : ww_Q2 sz st en sp a c r := by
  rcases h with ⟨h1, h2⟩ | ⟨h1, h2, h3⟩
  · refine Or.inl ⟨h1, fun d hd => ?_⟩
    have e := ww_pairE (sz := sz) (st := st) (en := en) (sp := sp) (a := a) (b := c) hd
    have g : ww_E en 2 (ww_mb2 a c) (ww_Rp sz st sp a c d) = 0 := h2 d hd
    rw [e] at g
    grind
  · refine Or.inr ⟨h1, h2, fun q => h3 ?_⟩
    have e := ww_pairE (sz := sz) (st := st) (en := en) (sp := sp) (a := a) (b := c) h1
    show ww_E en 2 (ww_mb2 a c) (ww_Rp sz st sp a c r) = 0
    rw [e, q]
    grind
theorem ww_difference {post : Int32 → St1 → Prop} {m w b : Int32} {a1 a2 a3 a4 a5 a6 a7 a8 a9 a10 a11 a12 a13 : Nat → Int32} {sz : Nat → Nat} {st en sp : ww_V} {a c : Nat} (hP : ww_P sz st en sp a1 a2 a3 a4) (ha : a < 3) (hc : c < 3)
    (H : ∀ r m' w' b' s5 s6 s7 s8 s9 s10 s11 s12 s13, ww_Q2 sz st en sp a c r → post (nI r) (m', w', b', a1, a2, a3, a4, s5, s6, s7, s8, s9, s10, s11, s12, s13)) : wpX_difference post (m, w, b, a1, a2, a3, a4, a5, a6, a7, a8, a9, a10, a11, a12, a13) (nI a) (nI c) := by
  unfold wpX_difference
  dsimp only
  exact ww_isGood ha (br_f ww_1n0 (ww_isGood hc (br_f ww_1n0 (ww_pair ha hc (fun s5 s6 hN => ww_search (m := 2) (D := 8) hP hN (by omega) (by omega) (fun k hk => ww_S_om hk) (fun j v q hq => ww_T_om j v q hq) (fun r w' b' s7 s8 s9 s10 s11 s12 hQ => H r _ _ _ _ _ _ _ _ _ _ _ _ (ww_Q_2 hQ)))))))
theorem ww_equivalent {post : Int32 → St1 → Prop} {m w b : Int32} {a1 a2 a3 a4 a5 a6 a7 a8 a9 a10 a11 a12 a13 : Nat → Int32} {sz : Nat → Nat} {st en sp : ww_V} {a c : Nat} (hP : ww_P sz st en sp a1 a2 a3 a4) (ha : a < 3) (hc : c < 3)
    (H1 : ∀ m' w' b' s5 s6 s7 s8 s9 s10 s11 s12 s13, (∀ d, 1 ≤ d → ww_W sz st en sp a d = ww_W sz st en sp c d) → post 1 (m', w', b', a1, a2, a3, a4, s5, s6, s7, s8, s9, s10, s11, s12, s13))
    (H0 : ∀ m' w' b' s5 s6 s7 s8 s9 s10 s11 s12 s13, ¬ (∀ d, 1 ≤ d → ww_W sz st en sp a d = ww_W sz st en sp c d) → post 0 (m', w', b', a1, a2, a3, a4, s5, s6, s7, s8, s9, s10, s11, s12, s13)) : wpX_equivalent post (m, w, b, a1, a2, a3, a4, a5, a6, a7, a8, a9, a10, a11, a12, a13) (nI a) (nI c) := by
  unfold wpX_equivalent
  dsimp only
  refine ww_isGood ha (br_f ww_1n0 (ww_isGood hc (br_f ww_1n0 (ww_pair ha hc (fun s5 s6 hN => ww_search (m := 2) (D := 8) hP hN (by omega) (by omega) (fun k hk => ww_S_om hk) (fun j v q hq => ww_T_om j v q hq) (fun r w' b' s7 s8 s9 s10 s11 s12 hQ => ?_))))))
  rcases ww_Q_2 hQ with ⟨h1, h2⟩ | ⟨h1, h2, h3⟩
  · exact br_t (by rw [h1]; rfl) (H1 _ _ _ _ _ _ _ _ _ _ _ _ h2)
  · exact br_f (nI_ne0 (by omega) (by omega)) (H0 _ _ _ _ _ _ _ _ _ _ _ _ (fun q => h3 (q r h1)))
theorem ww_first {post : Int32 → St1 → Prop} {m w b : Int32} {a1 a2 a3 a4 a5 a6 a7 a8 a9 a10 a11 a12 a13 : Nat → Int32} {sz : Nat → Nat} {st en sp : ww_V} {a : Nat} (hP : ww_P sz st en sp a1 a2 a3 a4) (ha : a < 3)
    (H : ∀ r m' w' b' s5 s6 s7 s8 s9 s10 s11 s12 s13, ww_Q1 sz st en sp a r → post (nI r) (m', w', b', a1, a2, a3, a4, s5, s6, s7, s8, s9, s10, s11, s12, s13)) : wpX_first post (m, w, b, a1, a2, a3, a4, a5, a6, a7, a8, a9, a10, a11, a12, a13) (nI a) := by
  unfold wpX_first
  dsimp only
  exact ww_isGood ha (br_f ww_1n0 (ww_alone ha (fun s5 s6 hN => ww_search (m := 1) (D := 4) hP hN (by omega) (by omega) (fun k hk => ww_S_om hk) (fun j v q hq => ww_T_om j v q hq) (fun r w' b' s7 s8 s9 s10 s11 s12 hQ => H r _ _ _ _ _ _ _ _ _ _ _ _ hQ))))
/-- a shift by a small count -/
theorem ww_cnt : ∀ n, n < 32 → ((nI n &&& 31).toBitVec.smod 32).toNat = n := by decide +kernel
theorem ww_shr {c t : Nat} (hc : c < 2 ^ 31) (ht : t < 32) : nI c >>> (nI t &&& 31) = nI (c / 2 ^ t) := pk_shrN hc _ t (ww_cnt t ht)
theorem ww_and1 {c : Nat} (hc : c < 2 ^ 31) : nI c &&& 1 = nI (c % 2) := pk_andN (by omega) 1 (by decide)
theorem ww_dle (c t : Nat) : c / 2 ^ t ≤ c := Nat.div_le_self c (2 ^ t)
theorem ww_half (c t : Nat) : c / 2 ^ (t + 1) = c / 2 ^ t / 2 := by
  rw [Nat.pow_succ, Nat.div_div_eq_div_mul]
theorem ww_weight_57 {post : Int32 → St1 → Prop} {w b : Int32} {a1 a2 a3 a4 a5 a6 a7 a8 a9 a10 a11 a12 a13 : Nat → Int32} {sz : Nat → Nat} {st en sp : ww_V} {a c : Nat} (hP : ww_P sz st en sp a1 a2 a3 a4) (hN : ww_N 1 (fun _ => a) (fun _ => 1) a5 a6) (hc1 : 1 ≤ c) (hc2 : c ≤ 1023)
    (H : ∀ s11 s12, post (nI (ww_W sz st en sp a c).val) (1, w, b, a1, a2, a3, a4, a5, a6, a7, a8, a9, a10, s11, s12, a13)) {t : Nat} (ht : t ≤ 9) (h1 : 1 ≤ c / 2 ^ t) (hv : ww_vv 12 a11 (ww_Ra sz st sp a (c / 2 ^ t))) : ∃ f, wX_weight_57 post (nI c) f (nI t - 1) 1 w b a1 a2 a3 a4 a5 a6 a7 a8 a9 a10 a11 a12 a13 := by
  refine ⟨t + 1, pk_loopD (σ := (Nat → Int32) × (Nat → Int32)) (fun f t s => wX_weight_57 post (nI c) f (nI t - 1) 1 w b a1 a2 a3 a4 a5 a6 a7 a8 a9 a10 s.1 s.2 a13) (fun t s => t ≤ 9 ∧ 1 ≤ c / 2 ^ t ∧ ww_vv 12 s.1 (ww_Ra sz st sp a (c / 2 ^ t))) ?_ ?_ t (a11, a12) ⟨ht, h1, hv⟩⟩
  · intro f s h
    obtain ⟨h1, h2, h3⟩ := h
    have e : c / 2 ^ 0 = c := by rw [Nat.pow_zero, Nat.div_one]
    rw [e] at h3
    exact br_t (show nI 0 - 1 < 0 by decide) (ww_endValue (m := 1) (sg := fun _ => 1) hP hN (by omega) h3 (H s.1 s.2))
  · intro f t s h hw
    obtain ⟨h1, h2, h3⟩ := h
    have e : nI (t + 1) - 1 = nI t := nI_pred t
    have hl : c / 2 ^ t ≤ c := ww_dle c t
    have hh := ww_half c t
    have el : (nI c >>> ((nI (t + 1) - 1) &&& 31)) &&& 1 = nI (c / 2 ^ t % 2) := by
      rw [e, ww_shr (by omega) (by omega), ww_and1 (by omega)]
    have en' : nI (t + 1) - 1 + (-1) = nI t - 1 := by
      rw [e, Int32.sub_eq_add_neg]
    refine br_f (by rw [e]; exact nI_pos (by omega)) ?_
    rw [el]
    refine ww_advance (m := 1) (sg := fun _ => 1) hP hN (by omega) (by omega) h3 (fun s11 s12 hs => nm_r en' (hw (s11, s12) ⟨by omega, by omega, ?_⟩))
    have g : ww_Ra sz st sp a (2 * (c / 2 ^ (t + 1)) + c / 2 ^ t % 2) = ww_T sz sp 1 (fun _ => a) (c / 2 ^ t % 2) (ww_Ra sz st sp a (c / 2 ^ (t + 1))) := ww_rws _ _ h2 (by omega)
    have g2 : 2 * (c / 2 ^ (t + 1)) + c / 2 ^ t % 2 = c / 2 ^ t := by omega
    rw [g2] at g
    show ww_vv 12 s11 (ww_Ra sz st sp a (c / 2 ^ t))
    rw [g]
    exact hs
theorem ww_weight {post : Int32 → St1 → Prop} {m w b : Int32} {a1 a2 a3 a4 a5 a6 a7 a8 a9 a10 a11 a12 a13 : Nat → Int32} {sz : Nat → Nat} {st en sp : ww_V} {a c : Nat} (hP : ww_P sz st en sp a1 a2 a3 a4) (ha : a < 3) (hc1 : 1 ≤ c) (hc2 : c ≤ 1023)
    (H : ∀ m' w' b' s5 s6 s7 s8 s9 s10 s11 s12 s13, post (nI (ww_W sz st en sp a c).val) (m', w', b', a1, a2, a3, a4, s5, s6, s7, s8, s9, s10, s11, s12, s13)) : wpX_weight post (m, w, b, a1, a2, a3, a4, a5, a6, a7, a8, a9, a10, a11, a12, a13) (nI a) (nI c) := by
  unfold wpX_weight
  dsimp only
  refine ww_isGood ha (br_f ww_1n0 (pk_lt c 1 (fun z => absurd z (by omega)) (fun _ => pk_le c 1023 (fun _ => ww_alone ha (fun s5 s6 hN => ww_startRow (m := 1) hP hN (by omega) (fun s hs => ?_))) (fun z => absurd z (by omega)))))
  have h57 : ∀ t, t ≤ 9 → c / 2 ^ t = 1 → ∃ f, wX_weight_57 post (nI c) f (nI t - 1) 1 w b a1 a2 a3 a4 s5 s6 a7 a8 a9 a10 s a12 a13 := by
    intro t ht e
    refine ww_weight_57 hP hN hc1 hc2 (fun s11 s12 => H _ _ _ _ _ _ _ _ _ _ _ _) ht (by omega) ?_
    rw [e]
    show ww_vv 12 s (ww_rw (ww_S sz st 1 (fun _ => a) (fun _ => 1)) (ww_T sz sp 1 (fun _ => a)) 1)
    rw [ww_rw1]
    exact hs
  refine ⟨10, pk_loopD (σ := Unit) (fun f t _ => wX_weight_36 post (nI c) 1 w b a1 a2 a3 a4 s5 s6 a7 a8 a9 a10 s a12 a13 f (nI t)) (fun t _ => t ≤ 9 ∧ c < 2 ^ (t + 1)) ?_ ?_ 9 () ⟨by omega, by omega⟩⟩
  · intro f _ h
    have h2 : c < 2 := h.2
    have e : c / 2 ^ 0 = 1 := by rw [Nat.pow_zero, Nat.div_one]; omega
    exact pk_le 0 0 (fun _ => nm_e (h57 0 (by omega) e)) (fun z => absurd z (by omega))
  · intro f t _ h hw
    obtain ⟨h1, h2⟩ := h
    have hd := ww_dle c (t + 1)
    refine pk_le (t + 1) 0 (fun z => absurd z (by omega)) (fun _ => pk_eq (c / 2 ^ (t + 1)) 0 (fun z => nm_r (pk_m1 t) (hw () ⟨by omega, ?_⟩)) (fun z => nm_e (h57 (t + 1) (by omega) ?_)) (ww_shr (by omega) (by omega)) rfl (by omega) (by omega))
    · rcases Nat.lt_or_ge c (2 ^ (t + 1)) with q | q
      · exact q
      · have : 0 < c / 2 ^ (t + 1) := Nat.div_pos q (Nat.two_pow_pos _)
        omega
    · have q : c / 2 ^ (t + 1) < 2 := Nat.div_lt_of_lt_mul (by rw [Nat.pow_succ] at h2; exact h2)
      exact Nat.le_antisymm (Nat.le_of_lt_succ q) (Nat.pos_of_ne_zero z)
end
section
/-! the rank -/
theorem ww_rank_33 {post : Int32 → St1 → Prop} {J : Int32 → (Nat → Int32) → (Nat → Int32) → (Nat → Int32) → (Nat → Int32) → (Nat → Int32) → (Nat → Int32) → (Nat → Int32) → (Nat → Int32) → (Nat → Int32) → (Nat → Int32) → (Nat → Int32) → (Nat → Int32) → (Nat → Int32) → Prop} {x1 x2 m w b : Int32} {a1 a2 a3 a4 a5 a6 a7 a8 a9 a10 a11 a12 a13 : Nat → Int32} {k : Nat} {v : ww_V} (hk : k < 4) (h7 : ∀ q, q < 12 → a7 (12 * k + q) = nI (v q).val)
    (H : ∀ s, (∀ j, j < 4 * k → s j = a13 j) → (∀ q, q < 4 → s (4 * k + q) = nI (v q).val) → J (nI (k + 1)) a1 a2 a3 a4 a5 a6 a7 a8 a9 a10 a11 a12 s) : ∃ f, wX_rank_33 post J x1 x2 (nI k) m w b f 0 a1 a2 a3 a4 a5 a6 a7 a8 a9 a10 a11 a12 a13 := by
  refine pk_loop (fun f q s => wX_rank_33 post J x1 x2 (nI k) m w b f (nI q) a1 a2 a3 a4 a5 a6 a7 a8 a9 a10 a11 a12 s) (fun q s => (∀ j, j < 4 * k → s j = a13 j) ∧ (∀ t, t < q → s (4 * k + t) = nI (v t).val)) 4 0 a13 (by omega) ⟨fun _ _ => rfl, lt_0⟩ ?_ ?_
  · intro f s h
    exact pk_le 4 4 (fun _ => nm_r (nI_1 k) (H s h.1 h.2)) (fun z => absurd z (by omega))
  · intro f q s hq h hw
    have x : (12 : Int32) * nI k + nI q = nI (12 * k + q) := ww_i12 _ _
    have y : (4 : Int32) * nI k + nI q = nI (4 * k + q) := ww_i4 _ _
    refine pk_le 4 q (fun z => absurd z (by omega)) (fun _ => ⟨pk_in (12 * k + q) 168 (by omega) x, pk_in (4 * k + q) 48 (by omega) y, nm_r (e' := upd s (4 * k + q) (nI (v q).val)) ?_ (nm_r (nI_1 q) (hw _ ⟨?_, ?_⟩))⟩)
    · rw [x, y, nI_clamp (by omega), nI_clamp (by omega), h7 q (by omega)]
    · intro j hj
      rw [pk_un (by omega)]
      exact h.1 j hj
    · intro t ht
      by_cases e : t = q
      · rw [e, pk_us]
      · rw [pk_un (by omega)]
        exact h.2 t (by omega)
theorem ww_rank_96 {post : Int32 → St1 → Prop} {J : Int32 → (Nat → Int32) → (Nat → Int32) → (Nat → Int32) → (Nat → Int32) → (Nat → Int32) → (Nat → Int32) → (Nat → Int32) → (Nat → Int32) → (Nat → Int32) → (Nat → Int32) → (Nat → Int32) → (Nat → Int32) → (Nat → Int32) → Prop} {x2 x3 m w b : Int32} {a1 a2 a3 a4 a5 a6 a7 a8 a9 a10 a11 a12 a13 : Nat → Int32} {k : Nat} {v : ww_V} (hk : k < 4) (h7 : ∀ q, q < 12 → a7 (12 * k + q) = nI (v q).val)
    (H : ∀ s, (∀ j, j < 16 + 4 * k → s j = a13 j) → (∀ q, q < 4 → s (16 + 4 * k + q) = nI (v q).val) → J (nI (k + 1)) a1 a2 a3 a4 a5 a6 a7 a8 a9 a10 a11 a12 s) : ∃ f, wX_rank_96 post J x2 x3 (nI k) m w b f 0 a1 a2 a3 a4 a5 a6 a7 a8 a9 a10 a11 a12 a13 := by
  refine pk_loop (fun f q s => wX_rank_96 post J x2 x3 (nI k) m w b f (nI q) a1 a2 a3 a4 a5 a6 a7 a8 a9 a10 a11 a12 s) (fun q s => (∀ j, j < 16 + 4 * k → s j = a13 j) ∧ (∀ t, t < q → s (16 + 4 * k + t) = nI (v t).val)) 4 0 a13 (by omega) ⟨fun _ _ => rfl, lt_0⟩ ?_ ?_
  · intro f s h
    exact pk_le 4 4 (fun _ => nm_r (nI_1 k) (H s h.1 h.2)) (fun z => absurd z (by omega))
  · intro f q s hq h hw
    have x : (12 : Int32) * nI k + nI q = nI (12 * k + q) := ww_i12 _ _
    have y : (16 : Int32) + 4 * nI k + nI q = nI (16 + 4 * k + q) := ww_i16 _ _
    refine pk_le 4 q (fun z => absurd z (by omega)) (fun _ => ⟨pk_in (12 * k + q) 168 (by omega) x, pk_in (16 + 4 * k + q) 48 (by omega) y, nm_r (e' := upd s (16 + 4 * k + q) (nI (v q).val)) ?_ (nm_r (nI_1 q) (hw _ ⟨?_, ?_⟩))⟩)
    · rw [x, y, nI_clamp (by omega), nI_clamp (by omega), h7 q (by omega)]
    · intro j hj
      rw [pk_un (by omega)]
      exact h.1 j hj
    · intro t ht
      by_cases e : t = q
      · rw [e, pk_us]
      · rw [pk_un (by omega)]
        exact h.2 t (by omega)
/-- one place of the product -/
theorem ww_rank_177 {post : Int32 → St1 → Prop} {K : Int32 → Int32 → Int32 → Int32 → (Nat → Int32) → (Nat → Int32) → (Nat → Int32) → (Nat → Int32) → (Nat → Int32) → (Nat → Int32) → (Nat → Int32) → (Nat → Int32) → (Nat → Int32) → (Nat → Int32) → (Nat → Int32) → (Nat → Int32) → (Nat → Int32) → Prop} {J : Int32 → (Nat → Int32) → (Nat → Int32) → (Nat → Int32) → (Nat → Int32) → (Nat → Int32) → (Nat → Int32) → (Nat → Int32) → (Nat → Int32) → (Nat → Int32) → (Nat → Int32) → (Nat → Int32) → (Nat → Int32) → (Nat → Int32) → Prop} {x2 m w b : Int32} {a1 a2 a3 a4 a5 a6 a7 a8 a9 a10 a11 a12 a13 : Nat → Int32} {n i j : Nat} {x y : ww_V} (hi : i < 4) (hj : j < 12) (hn : n ≤ 4) (h1 : ∀ q, q < 4 → a13 (4 * i + q) = nI (x q).val) (h2 : j < n → ∀ q, q < 4 → a13 (16 + 4 * j + q) = nI (y q).val) (h0 : a11 j = 0)
    (H : ∀ s, s j = nI (if j < n then ww_ip x y else 0).val → (∀ k, k ≠ j → s k = a11 k) → J (nI (j + 1)) a1 a2 a3 a4 a5 a6 a7 a8 a9 a10 s a12 a13) : ∃ f, wX_rank_177 post K J x2 (nI n) (nI i) (nI j) m w b f 0 a1 a2 a3 a4 a5 a6 a7 a8 a9 a10 a11 a12 a13 := by
  by_cases c : j < n
  · have h2' := h2 c
    refine pk_loop (fun f q s => wX_rank_177 post K J x2 (nI n) (nI i) (nI j) m w b f (nI q) a1 a2 a3 a4 a5 a6 a7 a8 a9 a10 s a12 a13) (fun q s => s j = nI (ww_ps (fun q => x q * y q) q).val ∧ (∀ k, k ≠ j → s k = a11 k)) 4 0 a11 (by omega) ⟨h0, fun _ _ => rfl⟩ ?_ ?_
    · intro f s h
      refine pk_le 4 4 (fun _ => nm_r (nI_1 j) (H s ?_ h.2)) (fun z => absurd z (by omega))
      rw [if_pos c]
      exact h.1
    · intro f q s hq h hw
      have u : (4 : Int32) * nI i + nI q = nI (4 * i + q) := ww_i4 _ _
      have v : (16 : Int32) + 4 * nI j + nI q = nI (16 + 4 * j + q) := ww_i16 _ _
      refine pk_le 4 q (fun z => absurd z (by omega)) (fun _ => pk_le n j (fun z => absurd z (by omega)) (fun _ => ⟨pk_in j 12 hj, pk_in (4 * i + q) 48 (by omega) u, pk_in (16 + 4 * j + q) 48 (by omega) v, ww_997, pk_in j 12 hj, nm_r (e' := upd s j (nI (ww_ps (fun q => x q * y q) (q + 1)).val)) ?_ (nm_r (nI_1 q) (hw _ ⟨pk_us, ?_⟩))⟩))
      · rw [u, v, nI_clamp (by omega), nI_clamp (by omega), nI_clamp (by omega), h.1, h1 q hq, h2' q hq, ww_mad]
        rfl
      · intro k hk
        rw [pk_un hk]
        exact h.2 k hk
  · refine ⟨1, pk_le 4 0 (fun z => absurd z (by omega)) (fun _ => pk_le n j (fun _ => nm_r (nI_1 j) (H a11 ?_ (fun _ _ => rfl))) (fun z => absurd z (by omega)))⟩
    rw [if_neg c]
    exact h0
/-- the row of products of x with the n columns -/
def ww_row (n : Nat) (x : ww_V) (Y : Nat → ww_V) : ww_V := fun j => if j < n then ww_ip x (Y j) else 0
theorem ww_rank_159 {post : Int32 → St1 → Prop} {K : Int32 → Int32 → Int32 → Int32 → (Nat → Int32) → (Nat → Int32) → (Nat → Int32) → (Nat → Int32) → (Nat → Int32) → (Nat → Int32) → (Nat → Int32) → (Nat → Int32) → (Nat → Int32) → (Nat → Int32) → (Nat → Int32) → (Nat → Int32) → (Nat → Int32) → Prop} {x2 m w : Int32} {a1 a2 a3 a4 a5 a6 a7 a8 a9 a10 a11 a12 a13 : Nat → Int32} {n i nb : Nat} {x : ww_V} {R Y : Nat → ww_V} {pv : Nat → Nat} (hi : i < 4) (hn : n ≤ 4) (hb : nb < 14) (h1 : ∀ q, q < 4 → a13 (4 * i + q) = nI (x q).val) (h2 : ∀ j, j < n → ∀ q, q < 4 → a13 (16 + 4 * j + q) = nI (Y j q).val) (hB : ww_BR nb R pv a9 a10)
    (H0 : ∀ s11 s12, (∀ k, k < 12 → ww_rd R pv (ww_row n x Y) nb k = 0) → K (nI (i + 1)) m w (nI nb) a1 a2 a3 a4 a5 a6 a7 a8 a9 a10 s11 s12 a13)
    (H1 : ∀ p s9 s10 s11 s12, p < 12 → ww_rd R pv (ww_row n x Y) nb p ≠ 0 → ww_BR (nb + 1) (ww_up R nb (fun k => ww_rd R pv (ww_row n x Y) nb k * ww_iv (ww_rd R pv (ww_row n x Y) nb p) 10)) (ww_up pv nb p) s9 s10 → K (nI (i + 1)) m w (nI (nb + 1)) a1 a2 a3 a4 a5 a6 a7 a8 s9 s10 s11 s12 a13) :
    ∃ f, wX_rank_159 post K x2 (nI n) (nI i) m w (nI nb) f 0 a1 a2 a3 a4 a5 a6 a7 a8 a9 a10 a11 a12 a13 := by
  refine pk_loop (fun f j s => wX_rank_159 post K x2 (nI n) (nI i) m w (nI nb) f (nI j) a1 a2 a3 a4 a5 a6 a7 a8 a9 a10 s a12 a13) (fun j s => ∀ k, k < j → s k = nI (ww_row n x Y k).val) 12 0 a11 (by omega) lt_0 ?_ ?_
  · intro f s h
    refine pk_le 12 12 (fun _ => ww_enter hb h hB (fun s12 hz => nm_r (nI_1 i) (H0 s s12 hz)) (fun p s9 s10 s12 hp hz hb => nm_r (nI_1 i) (H1 p s9 s10 s s12 hp hz hb))) (fun z => absurd z (by omega))
  · intro f j s hj h hw
    refine pk_le 12 j (fun z => absurd z (by omega)) (fun _ => ⟨pk_in j 12 hj, nm_r (e' := upd s j 0) (by rw [nI_clamp (by omega)]) (ww_rank_177 (y := Y j) hi hj hn h1 (h2 j) pk_us (fun s' e1 e2 => hw s' (lt_s (fun k hk => ?_) e1)))⟩)
    rw [e2 k (by omega), pk_un (by omega)]
    exact h k hk
theorem ww_rank_150 {post : Int32 → St1 → Prop} {m w : Int32} {a1 a2 a3 a4 a5 a6 a7 a8 a9 a10 a11 a12 a13 : Nat → Int32} {N n : Nat} {X Y : Nat → ww_V} (hN : N ≤ 4) (hn : n ≤ 4) (h1 : ∀ i, i < N → ∀ q, q < 4 → a13 (4 * i + q) = nI (X i q).val) (h2 : ∀ j, j < n → ∀ q, q < 4 → a13 (16 + 4 * j + q) = nI (Y j q).val)
    (H : ∀ r b' s9 s10 s11 s12, r ≤ N → (r = 0 ↔ ∀ i j, i < N → j < n → ww_ip (X i) (Y j) = 0) → post (nI r) (m, w, b', a1, a2, a3, a4, a5, a6, a7, a8, s9, s10, s11, s12, a13)) : ∃ f, wX_rank_150 post (nI N) (nI n) f 0 m w 0 a1 a2 a3 a4 a5 a6 a7 a8 a9 a10 a11 a12 a13 := by
  refine pk_loop (σ := Int32 × (Nat → Int32) × (Nat → Int32) × (Nat → Int32) × (Nat → Int32))
    (fun f i s => wX_rank_150 post (nI N) (nI n) f (nI i) m w s.1 a1 a2 a3 a4 a5 a6 a7 a8 s.2.1 s.2.2.1 s.2.2.2.1 s.2.2.2.2 a13)
    (fun i s => ∃ (nb : Nat) (R : Nat → ww_V) (pv : Nat → Nat), s.1 = nI nb ∧ nb ≤ i ∧ ww_BR nb R pv s.2.1 s.2.2.1 ∧ (nb = 0 ↔ ∀ k j, k < i → j < n → ww_ip (X k) (Y j) = 0)) N 0 (0, a9, a10, a11, a12) (by omega) ?_ ?_ ?_
  · exact ⟨0, fun _ _ => 0, fun _ => 0, rfl, by omega, fun c h => absurd h (by omega), ⟨fun _ k j h => absurd h (by omega), fun _ => rfl⟩⟩
  · intro f s h
    obtain ⟨b', s9, s10, s11, s12⟩ := s
    obtain ⟨nb, R, pv, e, hb, hB, hz⟩ := h
    have e' : b' = nI nb := e
    subst e'
    exact pk_le N N (fun _ => H nb _ s9 s10 s11 s12 hb hz) (fun z => absurd z (by omega))
  · intro f i s hi h hw
    obtain ⟨b', s9, s10, s11, s12⟩ := s
    obtain ⟨nb, R, pv, e, hb, hB, hz⟩ := h
    have e' : b' = nI nb := e
    subst e'
    refine pk_le N i (fun z => absurd z (by omega)) (fun _ => ww_rank_159 (by omega) hn (by omega) (h1 i hi) h2 hB (fun t11 t12 hq => hw (nI nb, s9, s10, t11, t12) ⟨nb, R, pv, rfl, by omega, hB, ?_⟩) (fun p t9 t10 t11 t12 hp hq hb' => hw (nI (nb + 1), t9, t10, t11, t12) ⟨nb + 1, _, _, rfl, by omega, hb', ?_⟩))
    · constructor
      · intro g k j hk hj
        by_cases c : k = i
        · have q := hq j (by omega)
          rw [g] at q
          have q' : (if j < n then ww_ip (X i) (Y j) else 0) = 0 := q
          rw [if_pos hj] at q'
          rw [c]
          exact q'
        · exact hz.mp g k j (by omega) hj
      · intro g
        exact hz.mpr (fun k j hk hj => g k j (by omega) hj)
    · constructor
      · intro g
        exact absurd g (by omega)
      · intro g
        have g0 : nb = 0 := hz.mpr (fun k j hk hj => g k j (by omega) hj)
        refine absurd ?_ hq
        rw [g0]
        show (if p < n then ww_ip (X i) (Y p) else 0) = 0
        by_cases c : p < n
        · rw [if_pos c]
          exact g i p (by omega) c
        · exact if_neg c
theorem ww_rank {post : Int32 → St1 → Prop} {m w b : Int32} {a1 a2 a3 a4 a5 a6 a7 a8 a9 a10 a11 a12 a13 : Nat → Int32} {sz : Nat → Nat} {st en sp : ww_V} {a : Nat} (hP : ww_P sz st en sp a1 a2 a3 a4) (ha : a < 3)
    (H : ∀ r m' w' b' s5 s6 s7 s8 s9 s10 s11 s12 s13, r ≤ sz a → (r = 0 ↔ ∀ d, 1 ≤ d → ww_W sz st en sp a d = 0) → post (nI r) (m', w', b', a1, a2, a3, a4, s5, s6, s7, s8, s9, s10, s11, s12, s13)) : wpX_rank post (m, w, b, a1, a2, a3, a4, a5, a6, a7, a8, a9, a10, a11, a12, a13) (nI a) := by
  obtain ⟨z1, z2, z3⟩ := hP.1 a ha
  unfold wpX_rank
  dsimp only
  refine ww_isGood ha (br_f ww_1n0 (ww_alone ha (fun s5 s6 hN => ww_gather (m := 1) (D := sz a) hP hN (by omega) (by omega) (fun k hk => ww_S_o1 (mb := fun _ => a) hk) (fun j v q hq => ww_T_o1 (mb := fun _ => a) j v q hq) (fun N R X pv cd s7 s8 s9 s10 s11 s12 hG hR => ?_))))
  have hNs := ww_Bs_le hG.1
  refine pk_loop (fun f k s => wX_rank_25 post (nI a) (nI N) 1 (nI N) (nI N) f (nI k) a1 a2 a3 a4 s5 s6 s7 s8 s9 s10 s11 s12 s) (fun k s => ∀ i, i < k → ∀ q, q < 4 → s (4 * i + q) = nI (X i q).val) N 0 a13 (by omega) lt_0 ?_ ?_
  · intro f k13 hk
    refine pk_le N N (fun _ => ww_gatherBack hP ha (fun n R' Y pv' cd' t7 t8 t9 t10 t11 t12 hG' hR' => ?_)) (fun z => absurd z (by omega))
    have hns := ww_Bs_le hG'.1
    refine pk_loop (fun f k s => wX_rank_87 post (nI N) (nI n) 1 (nI n) (nI n) f (nI k) a1 a2 a3 a4 s5 s6 t7 t8 t9 t10 t11 t12 s) (fun k s => (∀ j, j < 16 → s j = k13 j) ∧ ∀ i, i < k → ∀ q, q < 4 → s (16 + 4 * i + q) = nI (Y i q).val) n 0 k13 (by omega) ⟨fun _ _ => rfl, lt_0⟩ ?_ ?_
    · intro f y13 hy
      refine pk_le n n (fun _ => ww_rank_150 (N := N) (n := n) (X := X) (Y := Y) (by omega) (by omega) (fun i hi q hq => by rw [hy.1 _ (by omega)]; exact hk i hi q hq) hy.2 (fun r b' s9 s10 s11 s12 hr hz => H r _ _ _ _ _ _ _ _ _ _ _ _ (by omega) ?_)) (fun z => absurd z (by omega))
      have g := ww_rank0 hG (fun l _ => ww_T_lin sz sp 1 (fun _ => a) l) hG' (fun l v w _ => ww_adj l v w)
      rw [hz, g]
      refine ⟨fun q d hd => ?_, fun q d hd => ?_⟩
      · have e := ww_E_ip (en := en) (fun k hk => ww_Ra_o (sz := sz) (st := st) (sp := sp) (a := a) d hd k hk)
        unfold ww_W
        rw [e]
        exact q d hd
      · have e := ww_E_ip (en := en) (fun k hk => ww_Ra_o (sz := sz) (st := st) (sp := sp) (a := a) d hd k hk)
        have q' := q d hd
        unfold ww_W at q'
        rw [e] at q'
        exact q'
    · intro f k s hkn h hw
      refine pk_le n k (fun z => absurd z (by omega)) (fun _ => ww_rank_96 (v := Y k) (by omega) (hR' k hkn).1 (fun s' e1 e2 => hw s' ⟨fun j hj => ?_, fun i hi => ?_⟩))
      · rw [e1 j (by omega)]
        exact h.1 j hj
      · by_cases e : i = k
        · rw [e]
          exact e2
        · intro q hq
          rw [e1 _ (by omega)]
          exact h.2 i (by omega) q hq
  · intro f k s hkn h hw
    refine pk_le N k (fun z => absurd z (by omega)) (fun _ => ww_rank_33 (v := X k) (by omega) (hR k hkn).1 (fun s' e1 e2 => hw s' (fun i hi => ?_)))
    by_cases e : i = k
    · rw [e]
      exact e2
    · intro q hq
      rw [e1 _ (by omega)]
      exact h i (by omega) q hq
end
section
/-! the changes: size, mark, step, weave, scale -/
def ww_ok (n : Nat) (a : Nat → Int32) : Prop := ∀ k, k < n → ∃ t : ww_F, a k = nI t.val
def ww_OK (a1 a2 a3 a4 : Nat → Int32) : Prop := (∀ j, j < 3 → ∃ t, a1 j = nI t ∧ 1 ≤ t ∧ t ≤ 4) ∧ ww_ok 12 a2 ∧ ww_ok 12 a3 ∧ ww_ok 96 a4
theorem ww_ok_vv {n : Nat} {a : Nat → Int32} (h : ww_ok n a) : ww_vv n a (fun k => Fin.ofNat 997 (a k).toNatClampNeg) := by
  intro k hk
  obtain ⟨t, e⟩ := h k hk
  have g : Fin.ofNat 997 (a k).toNatClampNeg = t := by
    rw [e, nI_clamp (ww_c t)]
    exact Fin.ext (Nat.mod_eq_of_lt t.isLt)
  show a k = nI (Fin.ofNat 997 (a k).toNatClampNeg).val
  rw [g]
  exact e
theorem ww_OK_P {a1 a2 a3 a4 : Nat → Int32} (h : ww_OK a1 a2 a3 a4) : ∃ sz st en sp, ww_P sz st en sp a1 a2 a3 a4 := by
  obtain ⟨h1, h2, h3, h4⟩ := h
  refine ⟨fun j => (a1 j).toNatClampNeg, _, _, _, fun j hj => ?_, ww_ok_vv h2, ww_ok_vv h3, ww_ok_vv h4⟩
  obtain ⟨t, e, l1, l2⟩ := h1 j hj
  have g : (a1 j).toNatClampNeg = t := by rw [e, nI_clamp (by omega)]
  show a1 j = nI (a1 j).toNatClampNeg ∧ 1 ≤ (a1 j).toNatClampNeg ∧ (a1 j).toNatClampNeg ≤ 4
  rw [g]
  exact ⟨e, l1, l2⟩
theorem ww_vv_ok {n : Nat} {a : Nat → Int32} {v : ww_V} (h : ww_vv n a v) : ww_ok n a := fun k hk => ⟨v k, h k hk⟩
theorem ww_P_OK {sz : Nat → Nat} {st en sp : ww_V} {a1 a2 a3 a4 : Nat → Int32} (h : ww_P sz st en sp a1 a2 a3 a4) : ww_OK a1 a2 a3 a4 :=
  ⟨fun j hj => ⟨sz j, h.1 j hj⟩, ww_vv_ok h.2.1, ww_vv_ok h.2.2.1, ww_vv_ok h.2.2.2⟩
theorem ww_ok_up {n : Nat} {a : Nat → Int32} (h : ww_ok n a) (k : Nat) (t : ww_F) : ww_ok n (upd a k (nI t.val)) := by
  intro j hj
  by_cases e : j = k
  · exact ⟨t, by rw [e, pk_us]⟩
  · rw [pk_un e]
    exact h j hj
theorem ww_size_78 {post : Int32 → St1 → Prop} {m w b x3 : Int32} {a1 a2 a3 a4 a5 a6 a7 a8 a9 a10 a11 a12 a13 : Nat → Int32} {a : Nat} (ha : a < 3)
    (H : ∀ s4, (∀ k, k < 96 → s4 k = if k / 32 = a then 0 else a4 k) → post x3 (m, w, b, a1, a2, a3, s4, a5, a6, a7, a8, a9, a10, a11, a12, a13)) : ∃ f, wX_size_78 post (nI a) x3 m w b f 0 a1 a2 a3 a4 a5 a6 a7 a8 a9 a10 a11 a12 a13 := by
  refine pk_loop (fun f i s => wX_size_78 post (nI a) x3 m w b f (nI i) a1 a2 a3 s a5 a6 a7 a8 a9 a10 a11 a12 a13) (fun i s => ∀ k, k < 96 → s k = if k / 32 = a ∧ k % 32 < i then 0 else a4 k) 32 0 a4 (by omega) ?_ ?_ ?_
  · intro k hk
    exact (if_neg (fun z => absurd z.2 (by omega))).symm
  · intro f s h
    refine pk_le 32 32 (fun _ => H s (fun k hk => ?_)) (fun z => absurd z (by omega))
    rw [h k hk]
    by_cases c : k / 32 = a
    · rw [if_pos c, if_pos ⟨c, by omega⟩]
    · rw [if_neg c, if_neg (fun z => c z.1)]
  · intro f i s hi h hw
    have x : (32 : Int32) * nI a + nI i = nI (32 * a + i) := ww_i32 _ _
    refine pk_le 32 i (fun z => absurd z (by omega)) (fun _ => ⟨pk_in (32 * a + i) 96 (by omega) x, nm_r (e' := upd s (32 * a + i) 0) (by rw [x, nI_clamp (by omega)]) (nm_r (nI_1 i) (hw _ (fun k hk => ?_)))⟩)
    by_cases e : k = 32 * a + i
    · rw [if_pos ⟨by omega, by omega⟩, e, pk_us]
    · rw [pk_un e, h k hk]
      by_cases c : k / 32 = a ∧ k % 32 < i
      · rw [if_pos c, if_pos ⟨c.1, by omega⟩]
      · rw [if_neg c, if_neg (fun z => c ⟨z.1, by omega⟩)]
theorem ww_size {post : Int32 → St1 → Prop} {m w b : Int32} {a1 a2 a3 a4 a5 a6 a7 a8 a9 a10 a11 a12 a13 : Nat → Int32} {a n : Nat} (ha : a < 3) (h1 : 1 ≤ n) (h4 : n ≤ 4)
    (H : ∀ r s2 s3 s4, (∀ k, k < 12 → s2 k = if k / 4 = a then 0 else a2 k) → (∀ k, k < 12 → s3 k = if k / 4 = a then 0 else a3 k) → (∀ k, k < 96 → s4 k = if k / 32 = a then 0 else a4 k) → post r (m, w, b, upd a1 a (nI n), s2, s3, s4, a5, a6, a7, a8, a9, a10, a11, a12, a13)) :
    wpX_size post (m, w, b, a1, a2, a3, a4, a5, a6, a7, a8, a9, a10, a11, a12, a13) (nI a) (nI n) := by
  unfold wpX_size
  dsimp only
  refine ww_isGood ha (br_f ww_1n0 (pk_lt n 1 (fun z => absurd z (by omega)) (fun _ => pk_le n 4 (fun _ => ⟨pk_in a 3 ha, nm_e ⟨pk_in a 3 ha, nm_r (e' := upd a1 a (nI n)) (by rw [nI_clamp (by omega)]) ?_⟩⟩) (fun z => absurd z (by omega)))))
  refine pk_loop (σ := (Nat → Int32) × (Nat → Int32)) (fun f i s => wX_size_39 post (nI a) (a1 (nI a).toNatClampNeg) m w b f (nI i) (upd a1 a (nI n)) s.1 s.2 a4 a5 a6 a7 a8 a9 a10 a11 a12 a13) (fun i s => (∀ k, k < 12 → s.1 k = if k / 4 = a ∧ k % 4 < i then 0 else a2 k) ∧ (∀ k, k < 12 → s.2 k = if k / 4 = a ∧ k % 4 < i then 0 else a3 k)) 4 0 (a2, a3) (by omega) ?_ ?_ ?_
  · exact ⟨fun k hk => (if_neg (fun z => absurd z.2 (by omega))).symm, fun k hk => (if_neg (fun z => absurd z.2 (by omega))).symm⟩
  · intro f s h
    obtain ⟨s2, s3⟩ := s
    refine pk_le 4 4 (fun _ => ww_size_78 ha (fun s4 h4 => H _ s2 s3 s4 (fun k hk => ?_) (fun k hk => ?_) h4)) (fun z => absurd z (by omega))
    · have g : s2 k = if k / 4 = a ∧ k % 4 < 4 then 0 else a2 k := h.1 k hk
      rw [g]
      by_cases c : k / 4 = a
      · rw [if_pos c, if_pos ⟨c, by omega⟩]
      · rw [if_neg c, if_neg (fun z => c z.1)]
    · have g : s3 k = if k / 4 = a ∧ k % 4 < 4 then 0 else a3 k := h.2 k hk
      rw [g]
      by_cases c : k / 4 = a
      · rw [if_pos c, if_pos ⟨c, by omega⟩]
      · rw [if_neg c, if_neg (fun z => c z.1)]
  · intro f i s hi h hw
    obtain ⟨s2, s3⟩ := s
    have x : (4 : Int32) * nI a + nI i = nI (4 * a + i) := ww_i4 _ _
    refine pk_le 4 i (fun z => absurd z (by omega)) (fun _ => ⟨pk_in (4 * a + i) 12 (by omega) x, nm_r (e' := upd s2 (4 * a + i) 0) (by rw [x, nI_clamp (by omega)]) ⟨pk_in (4 * a + i) 12 (by omega) x, nm_r (e' := upd s3 (4 * a + i) 0) (by rw [x, nI_clamp (by omega)]) (nm_r (nI_1 i) (hw (upd s2 (4 * a + i) 0, upd s3 (4 * a + i) 0) ⟨fun k hk => ?_, fun k hk => ?_⟩))⟩⟩)
    · have g : s2 k = if k / 4 = a ∧ k % 4 < i then 0 else a2 k := h.1 k hk
      show upd s2 (4 * a + i) 0 k = _
      by_cases e : k = 4 * a + i
      · rw [if_pos ⟨by omega, by omega⟩, e, pk_us]
      · rw [pk_un e, g]
        by_cases c : k / 4 = a ∧ k % 4 < i
        · rw [if_pos c, if_pos ⟨c.1, by omega⟩]
        · rw [if_neg c, if_neg (fun z => c ⟨z.1, by omega⟩)]
    · have g : s3 k = if k / 4 = a ∧ k % 4 < i then 0 else a3 k := h.2 k hk
      show upd s3 (4 * a + i) 0 k = _
      by_cases e : k = 4 * a + i
      · rw [if_pos ⟨by omega, by omega⟩, e, pk_us]
      · rw [pk_un e, g]
        by_cases c : k / 4 = a ∧ k % 4 < i
        · rw [if_pos c, if_pos ⟨c.1, by omega⟩]
        · rw [if_neg c, if_neg (fun z => c ⟨z.1, by omega⟩)]
theorem ww_size_ok {post : Int32 → St1 → Prop} {m w b : Int32} {a1 a2 a3 a4 a5 a6 a7 a8 a9 a10 a11 a12 a13 : Nat → Int32} {a n : Nat} (hK : ww_OK a1 a2 a3 a4) (ha : a < 3) (h1 : 1 ≤ n) (h4 : n ≤ 4) (H : ∀ r s1 s2 s3 s4, ww_OK s1 s2 s3 s4 → post r (m, w, b, s1, s2, s3, s4, a5, a6, a7, a8, a9, a10, a11, a12, a13)) : wpX_size post (m, w, b, a1, a2, a3, a4, a5, a6, a7, a8, a9, a10, a11, a12, a13) (nI a) (nI n) := by
  obtain ⟨k1, k2, k3, k4⟩ := hK
  refine ww_size ha h1 h4 (fun r s2 s3 s4 e2 e3 e4 => H r _ s2 s3 s4 ⟨fun j hj => ?_, fun k hk => ?_, fun k hk => ?_, fun k hk => ?_⟩)
  · by_cases e : j = a
    · exact ⟨n, by rw [e, pk_us], h1, h4⟩
    · rw [pk_un e]
      exact k1 j hj
  · rw [e2 k hk]
    by_cases c : k / 4 = a
    · exact ⟨0, if_pos c⟩
    · rw [if_neg c]
      exact k2 k hk
  · rw [e3 k hk]
    by_cases c : k / 4 = a
    · exact ⟨0, if_pos c⟩
    · rw [if_neg c]
      exact k3 k hk
  · rw [e4 k hk]
    by_cases c : k / 32 = a
    · exact ⟨0, if_pos c⟩
    · rw [if_neg c]
      exact k4 k hk
theorem ww_mark {post : Int32 → St1 → Prop} {m w b : Int32} {a1 a2 a3 a4 a5 a6 a7 a8 a9 a10 a11 a12 a13 : Nat → Int32} {a p n : Nat} {x v : Int32} (hK : ww_OK a1 a2 a3 a4) (ha : a < 3) (hn : a1 a = nI n) (hp : p < n) (h4 : n ≤ 4) (H : ∀ r s1 s2 s3 s4, ww_OK s1 s2 s3 s4 → post r (m, w, b, s1, s2, s3, s4, a5, a6, a7, a8, a9, a10, a11, a12, a13)) : wpX_mark post (m, w, b, a1, a2, a3, a4, a5, a6, a7, a8, a9, a10, a11, a12, a13) (nI a) (nI p) x v := by
  obtain ⟨k1, k2, k3, k4⟩ := hK
  have c1 : a1 (nI a).toNatClampNeg = nI n := by rw [nI_clamp (by omega)]; exact hn
  have x5 : (4 : Int32) * nI a + nI p = nI (4 * a + p) := ww_i4 _ _
  have h54 : ∀ z0 : Int32, wX_mark_54 post x v (nI (4 * a + p)) z0 m w b a1 a2 a3 a4 a5 a6 a7 a8 a9 a10 a11 a12 a13 := fun z0 =>
    br_c (fun _ => ww_modulo v (fun t => ⟨pk_in (4 * a + p) 12 (by omega), nm_e (H _ _ _ _ _ ⟨k1, ww_ok_up k2 _ t, k3, k4⟩)⟩))
      (fun _ => ww_modulo v (fun t => ⟨pk_in (4 * a + p) 12 (by omega), nm_e (H _ _ _ _ _ ⟨k1, k2, ww_ok_up k3 _ t, k4⟩)⟩))
  unfold wpX_mark
  dsimp only
  exact ww_isGood ha (br_f ww_1n0 (pk_lt p 0 (fun z => absurd z (by omega)) (fun _ => ⟨pk_in a 3 ha, pk_lt p n (fun _ => nm_r x5 (br_c (fun _ => ⟨pk_in (4 * a + p) 12 (by omega), h54 _⟩) (fun _ => ⟨pk_in (4 * a + p) 12 (by omega), h54 _⟩))) (fun z => absurd z (by omega)) rfl c1 (by omega) (by omega)⟩)))
theorem ww_step {post : Int32 → St1 → Prop} {m w b : Int32} {a1 a2 a3 a4 a5 a6 a7 a8 a9 a10 a11 a12 a13 : Nat → Int32} {a r : Nat} {v : Int32} (hK : ww_OK a1 a2 a3 a4) (ha : a < 3) (hr : r < 32) (H : ∀ r s1 s2 s3 s4, ww_OK s1 s2 s3 s4 → post r (m, w, b, s1, s2, s3, s4, a5, a6, a7, a8, a9, a10, a11, a12, a13)) : wpX_step post (m, w, b, a1, a2, a3, a4, a5, a6, a7, a8, a9, a10, a11, a12, a13) (nI a) (nI r) v := by
  have h0 := H (-2) a1 a2 a3 a4 hK
  obtain ⟨k1, k2, k3, k4⟩ := hK
  have x : (32 : Int32) * nI a + nI r = nI (32 * a + r) := ww_i32 _ _
  unfold wpX_step
  dsimp only
  exact ww_isGood ha (br_f ww_1n0 (nm_e (nm_e (pk_lt r 0 (fun z => absurd z (by omega)) (fun _ => pk_lt 31 r (fun z => absurd z (by omega)) (fun _ => ⟨pk_in a 3 ha, br_c (fun _ => h0) (fun _ => ⟨pk_in a 3 ha, br_c (fun _ => ⟨pk_in (32 * a + r) 96 (by omega) x, nm_e (ww_modulo v (fun t => ⟨pk_in (32 * a + r) 96 (by omega) x, nm_e (H _ _ _ _ _ ⟨k1, k2, k3, ww_ok_up k4 _ t⟩)⟩))⟩) (fun _ => h0)⟩)⟩))))))
theorem ww_weave_77 {post : Int32 → St1 → Prop} {m w b x2 : Int32} {a1 a2 a3 a4 a5 a6 a7 a8 a9 a10 a11 a12 a13 : Nat → Int32} {a : Nat} (ha : a < 3) (k4 : ww_ok 96 a4)
    (H : ∀ s4, ww_ok 96 s4 → post 0 (m, w, b, a1, a2, a3, s4, a5, a6, a7, a8, a9, a10, a11, a12, a13)) : ∃ f, wX_weave_77 post (nI a) x2 m w b f 0 a1 a2 a3 a4 a5 a6 a7 a8 a9 a10 a11 a12 a13 := by
  refine pk_loop (fun f i s => wX_weave_77 post (nI a) x2 m w b f (nI i) a1 a2 a3 s a5 a6 a7 a8 a9 a10 a11 a12 a13) (fun i s => ww_ok 96 s) 32 0 a4 (by omega) k4 ?_ ?_
  · intro f s h
    exact pk_le 32 32 (fun _ => H s h) (fun z => absurd z (by omega))
  · intro f i s hi h hw
    have x : (32 : Int32) * nI a + nI i = nI (32 * a + i) := ww_i32 _ _
    exact pk_le 32 i (fun z => absurd z (by omega)) (fun _ => nm_e (nm_e (nm_e ⟨pk_in a 3 ha, br_c (fun _ => nm_r (nI_1 i) (hw _ h)) (fun _ => ⟨pk_in a 3 ha, br_c (fun _ => nm_r (nI_1 i) (hw _ h)) (fun _ => nm_e ⟨by decide, br_c (fun _ => ⟨pk_in (32 * a + i) 96 (by omega) x, nm_e (nm_r (nI_1 i) (hw _ (ww_ok_up h _ 0)))⟩) (fun _ => ww_modulo _ (fun t => ⟨pk_in (32 * a + i) 96 (by omega) x, nm_e (nm_r (nI_1 i) (hw _ (ww_ok_up h _ t)))⟩))⟩)⟩)⟩)))
theorem ww_weave {post : Int32 → St1 → Prop} {m w b : Int32} {a1 a2 a3 a4 a5 a6 a7 a8 a9 a10 a11 a12 a13 : Nat → Int32} {a n : Nat} (hK : ww_OK a1 a2 a3 a4) (ha : a < 3) (hn : n < 997) (H : ∀ r s1 s2 s3 s4, ww_OK s1 s2 s3 s4 → post r (m, w, b, s1, s2, s3, s4, a5, a6, a7, a8, a9, a10, a11, a12, a13)) : wpX_weave post (m, w, b, a1, a2, a3, a4, a5, a6, a7, a8, a9, a10, a11, a12, a13) (nI a) (nI n) := by
  obtain ⟨k1, k2, k3, k4⟩ := hK
  obtain ⟨z, z1, z2, z3⟩ := k1 a ha
  have c1 : a1 (nI a).toNatClampNeg = nI z := by rw [nI_clamp (by omega)]; exact z1
  unfold wpX_weave
  dsimp only
  refine ww_isGood ha (br_f ww_1n0 (pk_lt n 0 (fun z => absurd z (by omega)) (fun _ => pk_lt n 997 (fun _ => ?_) (fun z => absurd z (by omega)))))
  refine pk_loop (σ := (Nat → Int32) × (Nat → Int32)) (fun f i s => wX_weave_25 post (nI a) (nI n) m w b f (nI i) a1 s.1 s.2 a4 a5 a6 a7 a8 a9 a10 a11 a12 a13) (fun i s => ww_ok 12 s.1 ∧ ww_ok 12 s.2) z 0 (a2, a3) (by omega) ⟨k2, k3⟩ ?_ ?_
  · intro f s h
    exact And.intro (pk_in a 3 ha) (pk_le z z (fun _ => ww_weave_77 ha k4 (fun s4 h4 => H 0 a1 s.1 s.2 s4 ⟨k1, h.1, h.2, h4⟩)) (fun z => absurd z (by omega)) c1 rfl (by omega) (by omega))
  · intro f i s hi h hw
    have x : (4 : Int32) * nI a + nI i = nI (4 * a + i) := ww_i4 _ _
    exact And.intro (pk_in a 3 ha) (pk_le z i (fun z => absurd z (by omega)) (fun _ => ww_modulo _ (fun t => ⟨pk_in (4 * a + i) 12 (by omega) x, nm_e (ww_modulo _ (fun t' => ⟨pk_in (4 * a + i) 12 (by omega) x, nm_e (nm_r (nI_1 i) (hw (_, _) ⟨ww_ok_up h.1 _ t, ww_ok_up h.2 _ t'⟩))⟩))⟩)) c1 rfl (by omega) (by omega))
theorem ww_scale {post : Int32 → St1 → Prop} {m w b : Int32} {a1 a2 a3 a4 a5 a6 a7 a8 a9 a10 a11 a12 a13 : Nat → Int32} {a c : Nat} {v : Int32} (hK : ww_OK a1 a2 a3 a4) (ha : a < 3) (hc : c < 3) (H : ∀ r s1 s2 s3 s4, ww_OK s1 s2 s3 s4 → post r (m, w, b, s1, s2, s3, s4, a5, a6, a7, a8, a9, a10, a11, a12, a13)) : wpX_scale post (m, w, b, a1, a2, a3, a4, a5, a6, a7, a8, a9, a10, a11, a12, a13) (nI a) (nI c) v := by
  obtain ⟨k1, k2, k3, k4⟩ := hK
  unfold wpX_scale
  dsimp only
  refine ww_isGood ha (br_f ww_1n0 (ww_isGood hc (br_f ww_1n0 (ww_modulo v (fun t => ⟨pk_in c 3 hc, pk_in a 3 ha, nm_r (e' := upd a1 a (a1 c)) (by rw [nI_clamp (by omega), nI_clamp (by omega)]) ?_⟩)))))
  have k1' : ∀ j, j < 3 → ∃ t, upd a1 a (a1 c) j = nI t ∧ 1 ≤ t ∧ t ≤ 4 := by
    intro j hj
    by_cases e : j = a
    · rw [e, pk_us]
      exact k1 c hc
    · rw [pk_un e]
      exact k1 j hj
  refine pk_loop (σ := (Nat → Int32) × (Nat → Int32)) (fun f i s => wX_scale_37 post (nI a) (nI c) (nI t.val) m w b f (nI i) (upd a1 a (a1 c)) s.1 s.2 a4 a5 a6 a7 a8 a9 a10 a11 a12 a13) (fun i s => ww_ok 12 s.1 ∧ ww_ok 12 s.2) 4 0 (a2, a3) (by omega) ⟨k2, k3⟩ ?_ ?_
  · intro f s h
    refine pk_le 4 4 (fun _ => ?_) (fun z => absurd z (by omega))
    refine pk_loop (fun f i t => wX_scale_103 post (nI a) (nI c) m w b f (nI i) (upd a1 a (a1 c)) s.1 s.2 t a5 a6 a7 a8 a9 a10 a11 a12 a13) (fun i t => ww_ok 96 t) 32 0 a4 (by omega) k4 ?_ ?_
    · intro f t ht
      exact pk_le 32 32 (fun _ => H 0 _ s.1 s.2 t ⟨k1', h.1, h.2, ht⟩) (fun z => absurd z (by omega))
    · intro f i t hi ht hw
      have x : (32 : Int32) * nI a + nI i = nI (32 * a + i) := ww_i32 _ _
      have y : (32 : Int32) * nI c + nI i = nI (32 * c + i) := ww_i32 _ _
      obtain ⟨q, hq⟩ := ht (32 * c + i) (by omega)
      exact pk_le 32 i (fun z => absurd z (by omega)) (fun _ => ⟨pk_in (32 * c + i) 96 (by omega) y, pk_in (32 * a + i) 96 (by omega) x, nm_r (e' := upd t (32 * a + i) (nI q.val)) (by rw [x, y, nI_clamp (by omega), nI_clamp (by omega), hq]) (nm_r (nI_1 i) (hw _ (ww_ok_up ht _ q)))⟩)
  · intro f i s hi h hw
    obtain ⟨s2, s3⟩ := s
    have x : (4 : Int32) * nI a + nI i = nI (4 * a + i) := ww_i4 _ _
    have y : (4 : Int32) * nI c + nI i = nI (4 * c + i) := ww_i4 _ _
    have h2 : ww_ok 12 s2 := h.1
    have h3 : ww_ok 12 s3 := h.2
    obtain ⟨q, hq⟩ := h2 (4 * c + i) (by omega)
    obtain ⟨q', hq'⟩ := h3 (4 * c + i) (by omega)
    refine pk_le 4 i (fun z => absurd z (by omega)) (fun _ => ⟨pk_in (4 * c + i) 12 (by omega) y, ww_997, pk_in (4 * a + i) 12 (by omega) x, nm_r (e' := upd s2 (4 * a + i) (nI (q * t).val)) ?_ ⟨pk_in (4 * c + i) 12 (by omega) y, pk_in (4 * a + i) 12 (by omega) x, nm_r (e' := upd s3 (4 * a + i) (nI q'.val)) ?_ (nm_r (nI_1 i) (hw (upd s2 (4 * a + i) (nI (q * t).val), upd s3 (4 * a + i) (nI q'.val)) ⟨ww_ok_up h2 _ _, ww_ok_up h3 _ _⟩))⟩⟩)
    · dsimp only
      rw [x, y, nI_clamp (by omega), nI_clamp (by omega), hq, ww_mul]
    · dsimp only
      rw [x, y, nI_clamp (by omega), nI_clamp (by omega), hq']
end
section
/-! mirror -/
/-- the numbers of the states, the other way round -/
def ww_ms (a c N : Nat) (st : ww_V) (q : Nat) : ww_V := fun k => if k / 4 = a then (if k % 4 < N ∧ N ≤ k % 4 + q then st (4 * c + (N - 1 - k % 4)) else 0) else st k
/-- the route that a place of the mirrored one comes from -/
def ww_src (N k : Nat) : Nat := 16 * (k % 32 / 16) + 4 * (N - 1 - k % 16 / 4) + (N - 1 - k % 4)
def ww_mp (a c N : Nat) (sp : ww_V) (r : Nat) : ww_V := fun k => if k / 32 = a then (if k % 16 / 4 < N ∧ k % 4 < N ∧ ww_src N k < r then sp (32 * c + ww_src N k) else 0) else sp k
theorem ww_ms_up {a c N : Nat} {st : ww_V} {q : Nat} (hN : N ≤ 4) (hq : q < N) (k : Nat) : ww_ms a c N st (q + 1) k = if k = 4 * a + (N - 1) - q then st (4 * c + q) else ww_ms a c N st q k := by
  unfold ww_ms
  by_cases e : k = 4 * a + (N - 1) - q
  · have e1 : k / 4 = a := by omega
    have e2 : k % 4 = N - 1 - q := by omega
    have e3 : N - 1 - (N - 1 - q) = q := by omega
    rw [if_pos e1, if_pos e, e2, if_pos ⟨by omega, by omega⟩, e3]
  · rw [if_neg e]
    by_cases e1 : k / 4 = a
    · rw [if_pos e1, if_pos e1]
      by_cases d : k % 4 < N ∧ N ≤ k % 4 + q
      · rw [if_pos d, if_pos ⟨d.1, by omega⟩]
      · rw [if_neg d, if_neg (fun z => d ⟨z.1, by omega⟩)]
    · rw [if_neg e1, if_neg e1]
/-- a route by its letter and its two states -/
theorem ww_dr {r l p q : Nat} (hl : l < 2) (hp : p < 4) (hq : q < 4) (e : r = 16 * l + 4 * p + q) : r / 16 = l ∧ r / 4 % 4 = p ∧ r % 4 = q ∧ r < 32 := ⟨by omega, by omega, by omega, by omega⟩
theorem ww_dk {k a l p q : Nat} (hl : l < 2) (hp : p < 4) (hq : q < 4) (e : k = 32 * a + 16 * l + 4 * p + q) : k / 32 = a ∧ k % 32 / 16 = l ∧ k % 16 / 4 = p ∧ k % 4 = q := ⟨by omega, by omega, by omega, by omega⟩
theorem ww_dx (k : Nat) : k % 32 / 16 < 2 ∧ k % 16 / 4 < 4 ∧ k % 4 < 4 ∧ k = 32 * (k / 32) + 16 * (k % 32 / 16) + 4 * (k % 16 / 4) + k % 4 := ⟨by omega, by omega, by omega, by omega⟩
theorem ww_rx {r : Nat} (h : r < 32) : r / 16 < 2 ∧ r / 4 % 4 < 4 ∧ r % 4 < 4 ∧ r = 16 * (r / 16) + 4 * (r / 4 % 4) + r % 4 := ⟨by omega, by omega, by omega, by omega⟩
theorem ww_src_at {N l p q k a : Nat} (hN : N ≤ 4) (hl : l < 2) (hp : p < N) (hq : q < N) (e : k = 32 * a + 16 * l + 4 * (N - 1 - p) + (N - 1 - q)) : k / 32 = a ∧ k % 16 / 4 < N ∧ k % 4 < N ∧ ww_src N k = 16 * l + 4 * p + q := by
  obtain ⟨d1, d2, d3, d4⟩ := ww_dk hl (show N - 1 - p < 4 by omega) (show N - 1 - q < 4 by omega) e
  unfold ww_src
  rw [d2, d3, d4]
  exact ⟨d1, by omega, by omega, by omega⟩
theorem ww_src_inv {N k : Nat} (hN : N ≤ 4) (h1 : k % 16 / 4 < N) (h2 : k % 4 < N) : ww_src N k / 16 = k % 32 / 16 ∧ ww_src N k / 4 % 4 = N - 1 - k % 16 / 4 ∧ ww_src N k % 4 = N - 1 - k % 4 ∧ ww_src N k < 32 := by
  obtain ⟨d1, d2, d3, d4⟩ := ww_dx k
  exact ww_dr d1 (by omega) (by omega) rfl
theorem ww_mp_up {a c N : Nat} {sp : ww_V} {r : Nat} (hN : N ≤ 4) (hr : r < 32) (hp : r / 4 % 4 < N) (hq : r % 4 < N) (k : Nat) : ww_mp a c N sp (r + 1) k = if k = 32 * a + 16 * (r / 16) + 4 * (N - 1 - r / 4 % 4) + (N - 1 - r % 4) then sp (32 * c + r) else ww_mp a c N sp r k := by
  unfold ww_mp
  by_cases e : k = 32 * a + 16 * (r / 16) + 4 * (N - 1 - r / 4 % 4) + (N - 1 - r % 4)
  · obtain ⟨x1, x2, x3, x4⟩ := ww_rx hr
    obtain ⟨d1, d2, d3, d4⟩ := ww_src_at hN x1 hp hq e
    rw [← x4] at d4
    rw [if_pos d1, if_pos e, d4, if_pos ⟨d2, d3, Nat.lt_succ_self r⟩]
  · rw [if_neg e]
    by_cases e1 : k / 32 = a
    · rw [if_pos e1, if_pos e1]
      have ne : k % 16 / 4 < N → k % 4 < N → ww_src N k ≠ r := by
        intro g1 g2 g3
        obtain ⟨d1, d2, d3, d4⟩ := ww_src_inv hN g1 g2
        obtain ⟨x1, x2, x3, x4⟩ := ww_dx k
        rw [g3] at d1 d2 d3
        refine e ?_
        rw [d1, d2, d3]
        have f1 : N - 1 - (N - 1 - k % 16 / 4) = k % 16 / 4 := by omega
        have f2 : N - 1 - (N - 1 - k % 4) = k % 4 := by omega
        rw [f1, f2, ← e1]
        exact x4
      by_cases d : k % 16 / 4 < N ∧ k % 4 < N ∧ ww_src N k < r
      · rw [if_pos d, if_pos ⟨d.1, d.2.1, Nat.lt_succ_of_lt d.2.2⟩]
      · rw [if_neg d, if_neg (fun z => d ⟨z.1, z.2.1, Nat.lt_of_le_of_ne (Nat.le_of_lt_succ z.2.2) (ne z.1 z.2.1)⟩)]
    · rw [if_neg e1, if_neg e1]
theorem ww_mp_skip {a c N : Nat} {sp : ww_V} {r : Nat} (hN : N ≤ 4) (h : N ≤ r / 4 % 4 ∨ N ≤ r % 4) (k : Nat) : ww_mp a c N sp (r + 1) k = ww_mp a c N sp r k := by
  unfold ww_mp
  by_cases e1 : k / 32 = a
  · rw [if_pos e1, if_pos e1]
    have ne : k % 16 / 4 < N → k % 4 < N → ww_src N k ≠ r := by
      intro g1 g2 g3
      obtain ⟨d1, d2, d3, d4⟩ := ww_src_inv hN g1 g2
      rw [g3] at d2 d3
      rw [d2, d3] at h
      omega
    by_cases d : k % 16 / 4 < N ∧ k % 4 < N ∧ ww_src N k < r
    · rw [if_pos d, if_pos ⟨d.1, d.2.1, Nat.lt_succ_of_lt d.2.2⟩]
    · rw [if_neg d, if_neg (fun z => d ⟨z.1, z.2.1, Nat.lt_of_le_of_ne (Nat.le_of_lt_succ z.2.2) (ne z.1 z.2.1)⟩)]
  · rw [if_neg e1, if_neg e1]
theorem ww_mirror_Mir {sz : Nat → Nat} {st en sp : ww_V} {a c : Nat} (hac : a ≠ c) (h4 : sz c ≤ 4) : ww_Mir (ww_up sz a (sz c)) (ww_ms a c (sz c) st (sz c)) (ww_ms a c (sz c) en (sz c)) (ww_mp a c (sz c) sp 32) a c := by
  have z1 : ww_up sz a (sz c) a = sz c := ww_us
  have z2 : ww_up sz a (sz c) c = sz c := ww_un (Ne.symm hac)
  have key : ∀ (f : ww_V) q, q < sz c → ww_ms a c (sz c) f (sz c) (4 * a + (sz c - 1 - q)) = ww_ms a c (sz c) f (sz c) (4 * c + q) := by
    intro f q hq
    unfold ww_ms
    have e3 : sz c - 1 - (4 * a + (sz c - 1 - q)) % 4 = q := by omega
    rw [if_pos (by omega), if_pos ⟨by omega, by omega⟩, if_neg (by omega), e3]
  unfold ww_Mir
  rw [z1, z2]
  refine ⟨rfl, key st, key en, ?_⟩
  intro l p q hl hp hq
  obtain ⟨d1, d2, d3, d4⟩ := ww_src_at (a := a) h4 hl hp hq rfl
  obtain ⟨x1, x2, x3, x4⟩ := ww_dk (a := c) hl (show p < 4 by omega) (show q < 4 by omega) rfl
  unfold ww_mp
  rw [d4, x1, if_pos d1, if_pos ⟨d2, d3, by omega⟩, if_neg (Ne.symm hac)]
  exact congrArg sp (by omega)
theorem ww_mir_111 {post : Int32 → St1 → Prop} {m w b : Int32} {a1 a2 a3 a4 a5 a6 a7 a8 a9 a10 a11 a12 a13 : Nat → Int32} {a c N : Nat} {sp : ww_V} (ha : a < 3) (hc : c < 3) (hac : a ≠ c) (h1 : 1 ≤ N) (h4 : N ≤ 4) (hv : ww_vv 96 a4 (ww_mp a c N sp 0))
    (H : ∀ s4, ww_vv 96 s4 (ww_mp a c N sp 32) → post 0 (m, w, b, a1, a2, a3, s4, a5, a6, a7, a8, a9, a10, a11, a12, a13)) : ∃ f, wX_mirror_111 post (nI a) (nI c) (nI (N - 1)) m w b f 0 a1 a2 a3 a4 a5 a6 a7 a8 a9 a10 a11 a12 a13 := by
  refine pk_loop (fun f r s => wX_mirror_111 post (nI a) (nI c) (nI (N - 1)) m w b f (nI r) a1 a2 a3 s a5 a6 a7 a8 a9 a10 a11 a12 a13) (fun r s => ww_vv 96 s (ww_mp a c N sp r)) 32 0 a4 (by omega) hv ?_ ?_
  · intro f s h
    exact pk_le 32 32 (fun _ => H s h) (fun z => absurd z (by omega))
  · intro f r s hr h hw
    have e5 : (nI r >>> ((2 : Int32) &&& 31)) &&& 3 = nI (r / 4 % 4) := by rw [ww_sh2 (by omega), ww_an3 (by omega)]
    have y : (32 : Int32) * nI c + nI r = nI (32 * c + r) := ww_i32 _ _
    refine pk_le 32 r (fun z => absurd z (by omega)) (fun _ => nm_r e5 (nm_r (ww_an3 (by omega)) (pk_lt (N - 1) (r / 4 % 4) (fun z => nm_r (nI_1 r) (hw s (fun k hk => ?_))) (fun z => pk_lt (N - 1) (r % 4) (fun z => nm_r (nI_1 r) (hw s (fun k hk => ?_))) (fun z' => ?_)))))
    · rw [ww_mp_skip h4 (by omega)]
      exact h k hk
    · rw [ww_mp_skip h4 (by omega)]
      exact h k hk
    · have x : (32 : Int32) * nI a + 16 * (nI r >>> ((4 : Int32) &&& 31)) + 4 * (nI (N - 1) - nI (r / 4 % 4)) + nI (N - 1) - nI (r % 4) = nI (32 * a + 16 * (r / 16) + 4 * (N - 1 - r / 4 % 4) + (N - 1 - r % 4)) := by
        rw [ww_sh4 (by omega), pk_sub (by omega), ww_i96, pk_sub (by omega)]
        exact congrArg nI (by omega)
      have g : s (32 * c + r) = nI (sp (32 * c + r)).val := by
        rw [h (32 * c + r) (by omega)]
        have e : ww_mp a c N sp r (32 * c + r) = sp (32 * c + r) := if_neg (by omega)
        rw [e]
      refine ⟨pk_in (32 * c + r) 96 (by omega) y, pk_in (32 * a + 16 * (r / 16) + 4 * (N - 1 - r / 4 % 4) + (N - 1 - r % 4)) 96 (by omega) x, nm_r (e' := upd s (32 * a + 16 * (r / 16) + 4 * (N - 1 - r / 4 % 4) + (N - 1 - r % 4)) (nI (sp (32 * c + r)).val)) ?_ (nm_r (nI_1 r) (hw _ (ww_vv_up h ?_ (fun j hj => ?_))))⟩
      · rw [x, y, nI_clamp (by omega), nI_clamp (by omega), g]
      · rw [ww_mp_up h4 hr (by omega) (by omega), if_pos rfl]
      · rw [ww_mp_up h4 hr (by omega) (by omega), if_neg hj]
theorem ww_mirror {post : Int32 → St1 → Prop} {m w b : Int32} {a1 a2 a3 a4 a5 a6 a7 a8 a9 a10 a11 a12 a13 : Nat → Int32} {sz : Nat → Nat} {st en sp : ww_V} {a c : Nat} (hP : ww_P sz st en sp a1 a2 a3 a4) (ha : a < 3) (hc : c < 3)
    (H : ∀ r sz' st' en' sp' s1 s2 s3 s4, ww_P sz' st' en' sp' s1 s2 s3 s4 → (a ≠ c → ww_Mir sz' st' en' sp' a c) → post r (m, w, b, s1, s2, s3, s4, a5, a6, a7, a8, a9, a10, a11, a12, a13)) : wpX_mirror post (m, w, b, a1, a2, a3, a4, a5, a6, a7, a8, a9, a10, a11, a12, a13) (nI a) (nI c) := by
  obtain ⟨p1, p2, p3, p4⟩ := hP
  obtain ⟨z1, z2, z3⟩ := p1 c hc
  have c1 : a1 (nI c).toNatClampNeg = nI (sz c) := by rw [nI_clamp (by omega)]; exact z1
  have e3 : a1 (nI c).toNatClampNeg - 1 = nI (sz c - 1) := by rw [c1]; exact pk_sub (b := 1) (by omega)
  unfold wpX_mirror
  dsimp only
  refine ww_isGood ha (br_f ww_1n0 (ww_isGood hc (br_f ww_1n0 (pk_eq a c (fun e => H _ sz st en sp a1 a2 a3 a4 ⟨p1, p2, p3, p4⟩ (fun z => absurd e z)) (fun hac => ⟨pk_in c 3 hc, nm_r e3 ⟨pk_in c 3 hc, ?_⟩⟩)))))
  rw [c1]
  refine ww_size ha z2 z3 (fun r s2 s3 s4 h2 h3 h4 => ?_)
  have v2 : ww_vv 12 s2 (ww_ms a c (sz c) st 0) := by
    intro k hk
    rw [h2 k hk]
    unfold ww_ms
    by_cases d : k / 4 = a
    · rw [if_pos d, if_pos d, if_neg (fun z => absurd z.2 (by omega))]
      rfl
    · rw [if_neg d, if_neg d]
      exact p2 k hk
  have v3 : ww_vv 12 s3 (ww_ms a c (sz c) en 0) := by
    intro k hk
    rw [h3 k hk]
    unfold ww_ms
    by_cases d : k / 4 = a
    · rw [if_pos d, if_pos d, if_neg (fun z => absurd z.2 (by omega))]
      rfl
    · rw [if_neg d, if_neg d]
      exact p3 k hk
  have v4 : ww_vv 96 s4 (ww_mp a c (sz c) sp 0) := by
    intro k hk
    rw [h4 k hk]
    unfold ww_mp
    by_cases d : k / 32 = a
    · rw [if_pos d, if_pos d, if_neg (fun z => absurd z.2.2 (by omega))]
      rfl
    · rw [if_neg d, if_neg d]
      exact p4 k hk
  refine pk_loop (σ := (Nat → Int32) × (Nat → Int32)) (fun f q s => wX_mirror_48 post (nI a) (nI c) (nI (sz c - 1)) m w b f (nI q) (upd a1 a (nI (sz c))) s.1 s.2 s4 a5 a6 a7 a8 a9 a10 a11 a12 a13) (fun q s => ww_vv 12 s.1 (ww_ms a c (sz c) st q) ∧ ww_vv 12 s.2 (ww_ms a c (sz c) en q)) (sz c) 0 (s2, s3) (by omega) ⟨v2, v3⟩ ?_ ?_
  · intro f s h
    refine pk_lt (sz c - 1) (sz c) (fun _ => ww_mir_111 ha hc hac z2 z3 v4 (fun t4 g4 => H 0 (ww_up sz a (sz c)) _ _ _ _ _ _ _ ⟨fun j hj => ?_, h.1, h.2, g4⟩ (fun _ => ww_mirror_Mir hac z3))) (fun z => absurd z (by omega))
    by_cases e : j = a
    · rw [e, pk_us, ww_us]
      exact ⟨rfl, z2, z3⟩
    · rw [pk_un e, ww_un e]
      exact p1 j hj
  · intro f q s hq h hw
    obtain ⟨t2, t3⟩ := s
    have g2 : ww_vv 12 t2 (ww_ms a c (sz c) st q) := h.1
    have g3 : ww_vv 12 t3 (ww_ms a c (sz c) en q) := h.2
    have y : (4 : Int32) * nI c + nI q = nI (4 * c + q) := ww_i4 _ _
    have x : (4 : Int32) * nI a + nI (sz c - 1) - nI q = nI (4 * a + (sz c - 1) - q) := by rw [ww_i4, pk_sub (by omega)]
    have f2 : t2 (4 * c + q) = nI (st (4 * c + q)).val := by
      rw [g2 _ (by omega)]
      have e : ww_ms a c (sz c) st q (4 * c + q) = st (4 * c + q) := if_neg (by omega)
      rw [e]
    have f3 : t3 (4 * c + q) = nI (en (4 * c + q)).val := by
      rw [g3 _ (by omega)]
      have e : ww_ms a c (sz c) en q (4 * c + q) = en (4 * c + q) := if_neg (by omega)
      rw [e]
    refine pk_lt (sz c - 1) q (fun z => absurd z (by omega)) (fun _ => ⟨pk_in (4 * c + q) 12 (by omega) y, pk_in (4 * a + (sz c - 1) - q) 12 (by omega) x, nm_r (e' := upd t2 (4 * a + (sz c - 1) - q) (nI (st (4 * c + q)).val)) ?_ ⟨pk_in (4 * c + q) 12 (by omega) y, pk_in (4 * a + (sz c - 1) - q) 12 (by omega) x, nm_r (e' := upd t3 (4 * a + (sz c - 1) - q) (nI (en (4 * c + q)).val)) ?_ (nm_r (nI_1 q) (hw (upd t2 (4 * a + (sz c - 1) - q) (nI (st (4 * c + q)).val), upd t3 (4 * a + (sz c - 1) - q) (nI (en (4 * c + q)).val)) ⟨ww_vv_up g2 ?_ (fun j hj => ?_), ww_vv_up g3 ?_ (fun j hj => ?_)⟩))⟩⟩)
    · dsimp only
      rw [x, y, nI_clamp (by omega), nI_clamp (by omega), f2]
    · dsimp only
      rw [x, y, nI_clamp (by omega), nI_clamp (by omega), f3]
    · rw [ww_ms_up z3 hq, if_pos rfl]
    · rw [ww_ms_up z3 hq, if_neg hj]
    · rw [ww_ms_up z3 hq, if_pos rfl]
    · rw [ww_ms_up z3 hq, if_neg hj]
end
section
/-! one turn of the law; the law's pair -/
theorem ww_turn_50 {post : St1 → Prop} {m w b : Int32} {a1 a2 a3 a4 a5 a6 a7 a8 a9 a10 a11 a12 a13 : Nat → Int32} {sz : Nat → Nat} {st en sp : ww_V} {op a c p q : Nat} {d z0 : Int32} (hP : ww_P sz st en sp a1 a2 a3 a4) (ho : op < 16) (ha : a < 3) (hc : c < 3) (hp : p < sz a) (hq : q < sz a)
    (H : ∀ sz' st' en' sp' s1 s2 s3 s4, ww_P sz' st' en' sp' s1 s2 s3 s4 → (13 ≤ op → op < 15 → a ≠ c → ww_Mir sz' st' en' sp' a c) → post (m, w, b, s1, s2, s3, s4, a5, a6, a7, a8, a9, a10, a11, a12, a13)) : wL_turn_50 post (nI op) (nI a) (nI c) d (nI p) (nI q) z0 m w b a1 a2 a3 a4 a5 a6 a7 a8 a9 a10 a11 a12 a13 := by
  have hK := ww_P_OK hP
  obtain ⟨z1, z2, z3⟩ := hP.1 a ha
  have HK : op < 13 → ∀ s1 s2 s3 s4, ww_OK s1 s2 s3 s4 → post (m, w, b, s1, s2, s3, s4, a5, a6, a7, a8, a9, a10, a11, a12, a13) := by
    intro h s1 s2 s3 s4 hk
    obtain ⟨sz', st', en', sp', h'⟩ := ww_OK_P hk
    exact H sz' st' en' sp' s1 s2 s3 s4 h' (fun g => absurd g (by omega))
  unfold wL_turn_50
  refine pk_eq op 0 (fun e => ?_) (fun _ => pk_le 4 op (fun _ => pk_le 10 op (fun _ => pk_eq op 10 (fun e => ⟨ww_997, ?_⟩) (fun _ => pk_le 13 op (fun _ => pk_le 15 op (fun g => H sz st en sp a1 a2 a3 a4 hP (fun _ h => absurd h (by omega))) (fun g => ?_)) (fun g => ?_))) (fun g => ?_)) (fun g => ?_))
  · obtain ⟨t, ht, et⟩ := pk_andE d (m := 3) 2 (by decide)
    have e1 : 1 + (d &&& 3) = nI (1 + t) := by rw [et]; exact nI_add 1 t
    rw [e1]
    exact ww_size_ok hK ha (by omega) (by omega) (fun r s1 s2 s3 s4 h => HK (by omega) s1 s2 s3 s4 h)
  · obtain ⟨t, ht, et⟩ := pk_andE d (m := 1023) 10 (by decide)
    have e1 : (d &&& 1023) - (d &&& 1023) / 997 * 997 = nI (t % 997) := by rw [et]; exact pk_rem (d := 997) (by omega) (by omega) (by omega)
    rw [e1]
    exact ww_weave hK ha (Nat.mod_lt _ (by omega)) (fun r s1 s2 s3 s4 h => HK (by omega) s1 s2 s3 s4 h)
  · exact ww_mirror hP ha hc (fun r sz' st' en' sp' s1 s2 s3 s4 h hM => H sz' st' en' sp' s1 s2 s3 s4 h (fun _ _ hac => hM hac))
  · exact ww_scale hK ha hc (fun r s1 s2 s3 s4 h => HK (by omega) s1 s2 s3 s4 h)
  · obtain ⟨t, ht, et⟩ := pk_andE (d >>> ((4 : Int32) &&& 31)) (m := 1) 1 (by decide)
    have e1 : 16 * ((d >>> ((4 : Int32) &&& 31)) &&& 1) + 4 * nI p + nI q = nI (16 * t + 4 * p + q) := by
      rw [et]
      show nI 16 * nI t + nI 4 * nI p + nI q = _
      rw [pk_mul, pk_mul, nI_add, nI_add]
    rw [e1]
    exact ww_step hK ha (by omega) (fun r s1 s2 s3 s4 h => HK (by omega) s1 s2 s3 s4 h)
  · exact ww_mark hK ha z1 hp z3 (fun r s1 s2 s3 s4 h => HK (by omega) s1 s2 s3 s4 h)
theorem ww_turn {post : St1 → Prop} {m w b : Int32} {a1 a2 a3 a4 a5 a6 a7 a8 a9 a10 a11 a12 a13 : Nat → Int32} {sz : Nat → Nat} {st en sp : ww_V} {op a c : Nat} {d : Int32} (hP : ww_P sz st en sp a1 a2 a3 a4) (ho : op < 16) (ha : a < 3) (hc : c < 3)
    (H : ∀ sz' st' en' sp' s1 s2 s3 s4, ww_P sz' st' en' sp' s1 s2 s3 s4 → (13 ≤ op → op < 15 → a ≠ c → ww_Mir sz' st' en' sp' a c) → post (m, w, b, s1, s2, s3, s4, a5, a6, a7, a8, a9, a10, a11, a12, a13)) : wpL_turn post (m, w, b, a1, a2, a3, a4, a5, a6, a7, a8, a9, a10, a11, a12, a13) (nI op) (nI a) (nI c) d := by
  obtain ⟨z1, z2, z3⟩ := hP.1 a ha
  have hz : ¬ nI (sz a) = 0 := nI_ne0 (by omega) (by omega)
  obtain ⟨t, ht, et⟩ := pk_andE d (m := 3) 2 (by decide)
  obtain ⟨u, hu, eu⟩ := pk_andE (d >>> ((2 : Int32) &&& 31)) (m := 3) 2 (by decide)
  have e1 : (d &&& 3) - (d &&& 3) / nI (sz a) * nI (sz a) = nI (t % sz a) := by rw [et]; exact pk_rem (by omega) (by omega) (by omega)
  have e2 : ((d >>> ((2 : Int32) &&& 31)) &&& 3) - ((d >>> ((2 : Int32) &&& 31)) &&& 3) / nI (sz a) * nI (sz a) = nI (u % sz a) := by rw [eu]; exact pk_rem (by omega) (by omega) (by omega)
  have hp : t % sz a < sz a := Nat.mod_lt _ (by omega)
  have hq : u % sz a < sz a := Nat.mod_lt _ (by omega)
  unfold wpL_turn
  dsimp only
  exact ww_states hP ha ⟨hz, nm_r e1 ⟨hz, nm_r e2 (br_c (fun _ => ww_turn_50 hP ho ha hc hp hq H) (fun _ => ww_turn_50 hP ho ha hc hp hq H))⟩⟩
theorem ww_pair_79 {post : Int32 → St1 → Prop} {a1 a2 a3 a4 : Nat → Int32} {sz : Nat → Nat} {st en sp : ww_V} {a c : Nat} (hP : ww_P sz st en sp a1 a2 a3 a4) (ha : a < 3) (hc : c < 3) (hE : ∀ d, 1 ≤ d → ww_W sz st en sp a d = ww_W sz st en sp c d)
    (H : ∀ m w b a5 a6 a7 a8 a9 a10 a11 a12 a13, post 1 (m, w, b, a1, a2, a3, a4, a5, a6, a7, a8, a9, a10, a11, a12, a13)) : ∀ d i, i + d = 114 → ∀ m w b a5 a6 a7 a8 a9 a10 a11 a12 a13, wL_pair_79 post (nI a) (nI c) (d + 1) (nI (1 + 9 * i)) m w b a1 a2 a3 a4 a5 a6 a7 a8 a9 a10 a11 a12 a13 := by
  intro d
  induction d with
  | zero =>
    intro i hi m w b a5 a6 a7 a8 a9 a10 a11 a12 a13
    exact pk_le 1024 (1 + 9 * i) (fun _ => H m w b a5 a6 a7 a8 a9 a10 a11 a12 a13) (fun z => absurd z (by omega))
  | succ d ih =>
    intro i hi m w b a5 a6 a7 a8 a9 a10 a11 a12 a13
    have e9 : nI (1 + 9 * i) + 9 = nI (1 + 9 * (i + 1)) := nI_add (1 + 9 * i) 9
    exact pk_le 1024 (1 + 9 * i) (fun z => absurd z (by omega)) (fun _ => ww_weight hP ha (by omega) (by omega) (fun m' w' b' s5 s6 s7 s8 s9 s10 s11 s12 s13 => ww_weight hP hc (by omega) (by omega) (fun m' w' b' s5 s6 s7 s8 s9 s10 s11 s12 s13 => br_t (congrArg (fun t : ww_F => nI t.val) (hE _ (by omega))) (nm_r e9 (ih (i + 1) (by omega) _ _ _ _ _ _ _ _ _ _ _ _)))))
theorem ww_lpair {post : Int32 → St1 → Prop} {m w b : Int32} {a1 a2 a3 a4 a5 a6 a7 a8 a9 a10 a11 a12 a13 : Nat → Int32} {sz : Nat → Nat} {st en sp : ww_V} {a c : Nat} (hP : ww_P sz st en sp a1 a2 a3 a4) (ha : a < 3) (hc : c < 3)
    (H : ∀ m w b a5 a6 a7 a8 a9 a10 a11 a12 a13, post 1 (m, w, b, a1, a2, a3, a4, a5, a6, a7, a8, a9, a10, a11, a12, a13)) : wpL_pair post (m, w, b, a1, a2, a3, a4, a5, a6, a7, a8, a9, a10, a11, a12, a13) (nI a) (nI c) := by
  unfold wpL_pair
  dsimp only
  refine ww_difference hP ha hc (fun r m' w' b' s5 s6 s7 s8 s9 s10 s11 s12 s13 hQ => ww_equivalent hP ha hc (fun m' w' b' s5 s6 s7 s8 s9 s10 s11 s12 s13 hA => ?_) (fun m' w' b' s5 s6 s7 s8 s9 s10 s11 s12 s13 hA => ?_))
  · rcases hQ with ⟨h1, _⟩ | ⟨h1, h2, h3⟩
    · subst h1
      exact br_f (by decide) (br_f (by decide) (br_t rfl (br_t rfl (br_t rfl (br_t (by decide) ⟨115, ww_pair_79 hP ha hc hA H 114 0 (by omega) _ _ _ _ _ _ _ _ _ _ _ _⟩)))))
    · exact absurd (hA r h1) h3
  · rcases hQ with ⟨h1, h2⟩ | ⟨h1, h2, h3⟩
    · exact absurd h2 hA
    · exact pk_lt r 0 (fun z => absurd z (by omega)) (fun _ => pk_lt 255 r (fun z => absurd z (by omega)) (fun _ => br_f (by decide) (pk_eq r 0 (fun z => absurd z (by omega)) (fun _ => br_t rfl (pk_le r 0 (fun z => absurd z (by omega)) (fun _ => ww_weight hP ha h1 (by omega) (fun m' w' b' s5 s6 s7 s8 s9 s10 s11 s12 s13 => ww_weight hP hc h1 (by omega) (fun m' w' b' s5 s6 s7 s8 s9 s10 s11 s12 s13 => br_f (fun q => h3 (ww_inj q)) (H _ _ _ _ _ _ _ _ _ _ _ _)))))))))
end
section
/-! the law -/
theorem ww_cell {post : Int32 → Prop} {L : Nat} {xs : Nat → Int32} {k : Nat} (hL : L ≤ 260) (hk : k ≤ 1000) (H : ∀ v, post v) : wpL_cell post L xs () (nI k) :=
  pk_le L k (fun _ => H 0) (fun z => ⟨pk_in k L z, H _⟩)
theorem ww_law_187 {post : Int32 → Prop} {L : Nat} {xs : Nat → Int32} {J : Int32 → Int32 → Int32 → Int32 → (Nat → Int32) → (Nat → Int32) → (Nat → Int32) → (Nat → Int32) → (Nat → Int32) → (Nat → Int32) → (Nat → Int32) → (Nat → Int32) → (Nat → Int32) → (Nat → Int32) → (Nat → Int32) → (Nat → Int32) → (Nat → Int32) → Prop} {kc ks : Nat} {m w b c : Int32} {a1 a2 a3 a4 a5 a6 a7 a8 a9 a10 a11 a12 a13 : Nat → Int32} {sz : Nat → Nat} {st en sp : ww_V} {i a : Nat} (hP : ww_P sz st en sp a1 a2 a3 a4) (ha : a < 3)
    (H : ∀ m w b a5 a6 a7 a8 a9 a10 a11 a12 a13, J (nI (2 * (i + 1))) m w b a1 a2 a3 a4 a5 a6 a7 a8 a9 a10 a11 a12 a13) : wL_law_187 post L xs J (nI (2 * i)) c (nI a) kc ks m w b a1 a2 a3 a4 a5 a6 a7 a8 a9 a10 a11 a12 a13 := by
  have e2 : nI (2 * i) + 2 = nI (2 * (i + 1)) := nI_add (2 * i) 2
  obtain ⟨t, ht, et⟩ := pk_andE (c >>> ((8 : Int32) &&& 31)) (m := 3) 2 (by decide)
  have e1 : ((c >>> ((8 : Int32) &&& 31)) &&& 3) - ((c >>> ((8 : Int32) &&& 31)) &&& 3) / 3 * 3 = nI (t % 3) := by rw [et]; exact pk_rem (d := 3) (by omega) (by omega) (by omega)
  unfold wL_law_187
  refine br_c (fun _ => ⟨by decide, ?_⟩) (fun _ => nm_r e2 (H m w b a5 a6 a7 a8 a9 a10 a11 a12 a13))
  rw [e1]
  exact ww_lpair hP ha (Nat.mod_lt _ (by omega)) (fun m w b a5 a6 a7 a8 a9 a10 a11 a12 a13 => br_f ww_1n0 (nm_r e2 (H m w b a5 a6 a7 a8 a9 a10 a11 a12 a13)))
theorem ww_law_103 {post : Int32 → Prop} {L : Nat} {xs : Nat → Int32} {J : Int32 → Int32 → Int32 → Int32 → (Nat → Int32) → (Nat → Int32) → (Nat → Int32) → (Nat → Int32) → (Nat → Int32) → (Nat → Int32) → (Nat → Int32) → (Nat → Int32) → (Nat → Int32) → (Nat → Int32) → (Nat → Int32) → (Nat → Int32) → (Nat → Int32) → Prop} {kc ks : Nat} {m w b c : Int32} {a1 a2 a3 a4 a5 a6 a7 a8 a9 a10 a11 a12 a13 : Nat → Int32} {sz : Nat → Nat} {st en sp : ww_V} {i a : Nat} (hP : ww_P sz st en sp a1 a2 a3 a4) (ha : a < 3)
    (H : ∀ m w b a5 a6 a7 a8 a9 a10 a11 a12 a13, J (nI (2 * (i + 1))) m w b a1 a2 a3 a4 a5 a6 a7 a8 a9 a10 a11 a12 a13) : wL_law_103 post L xs J (nI (2 * i)) c (nI a) kc ks m w b a1 a2 a3 a4 a5 a6 a7 a8 a9 a10 a11 a12 a13 := by
  obtain ⟨z1, z2, z3⟩ := hP.1 a ha
  unfold wL_law_103
  refine br_c (fun _ => ww_rank hP ha (fun r m' w' b' s5 s6 s7 s8 s9 s10 s11 s12 s13 hr hz => ww_first hP ha (fun f m' w' b' s5 s6 s7 s8 s9 s10 s11 s12 s13 hf => pk_lt r 0 (fun z => absurd z (by omega)) (fun _ => ww_states hP ha (pk_lt (sz a) r (fun z => absurd z (by omega)) (fun _ => pk_eq r 0 (fun g => ?_) (fun g => ?_))))))) (fun _ => ww_law_187 hP ha H)
  · rcases hf with ⟨h1, h2⟩ | ⟨h1, h2, h3⟩
    · subst h1
      exact br_t rfl (br_t rfl (br_t (by decide) (ww_law_187 hP ha H)))
    · exact absurd (hz.mp g f h1) h3
  · rcases hf with ⟨h1, h2⟩ | ⟨h1, h2, h3⟩
    · exact absurd (hz.mpr h2) g
    · exact pk_eq f 0 (fun z => absurd z (by omega)) (fun _ => br_t rfl (pk_le f 0 (fun z => absurd z (by omega)) (fun _ => ww_weight hP ha h1 (by omega) (fun m' w' b' s5 s6 s7 s8 s9 s10 s11 s12 s13 => br_f (fun q => h3 (ww_inj (y := 0) q)) (ww_law_187 hP ha H)))))
theorem ww_law_10 {post : Int32 → Prop} {L : Nat} {xs : Nat → Int32} {kc ks : Nat} (hL : L ≤ 260) (H : post 1) : ∀ d i, L ≤ 2 * (i + d) → i + d ≤ 200 → ∀ m w b a1 a2 a3 a4 a5 a6 a7 a8 a9 a10 a11 a12 a13, ww_OK a1 a2 a3 a4 → wL_law_10 post L xs kc ks (d + 1) (nI (2 * i)) m w b a1 a2 a3 a4 a5 a6 a7 a8 a9 a10 a11 a12 a13 := by
  intro d
  induction d with
  | zero =>
    intro i h1 h2 m w b a1 a2 a3 a4 a5 a6 a7 a8 a9 a10 a11 a12 a13 hK
    exact pk_le L (2 * i) (fun _ => H) (fun z => absurd z (by omega))
  | succ d ih =>
    intro i h1 h2 m w b a1 a2 a3 a4 a5 a6 a7 a8 a9 a10 a11 a12 a13 hK
    have e1 : nI (2 * i) + 1 = nI (2 * i + 1) := nI_1 _
    obtain ⟨sz, st, en, sp, hP⟩ := ww_OK_P hK
    refine pk_le L (2 * i) (fun _ => H) (fun _ => ww_cell hL (by omega) (fun c => ?_))
    rw [e1]
    refine ww_cell hL (by omega) (fun d' => ?_)
    obtain ⟨op, ho, eo⟩ := pk_andE c (m := 15) 4 (by decide)
    obtain ⟨t, ht, et⟩ := pk_andE (c >>> ((4 : Int32) &&& 31)) (m := 3) 2 (by decide)
    obtain ⟨u, hu, eu⟩ := pk_andE (c >>> ((6 : Int32) &&& 31)) (m := 3) 2 (by decide)
    have e6 : ((c >>> ((4 : Int32) &&& 31)) &&& 3) - ((c >>> ((4 : Int32) &&& 31)) &&& 3) / 3 * 3 = nI (t % 3) := by rw [et]; exact pk_rem (d := 3) (by omega) (by omega) (by omega)
    have e7 : ((c >>> ((6 : Int32) &&& 31)) &&& 3) - ((c >>> ((6 : Int32) &&& 31)) &&& 3) / 3 * 3 = nI (u % 3) := by rw [eu]; exact pk_rem (d := 3) (by omega) (by omega) (by omega)
    have ha : t % 3 < 3 := Nat.mod_lt _ (by omega)
    have hc : u % 3 < 3 := Nat.mod_lt _ (by omega)
    refine nm_r eo ⟨by decide, nm_r e6 ⟨by decide, nm_r e7 (ww_turn hP (by omega) ha hc (fun sz' st' en' sp' s1 s2 s3 s4 hP' hM => ?_))⟩⟩
    have HJ : ∀ m w b a5 a6 a7 a8 a9 a10 a11 a12 a13, wL_law_10 post L xs kc ks (d + 1) (nI (2 * (i + 1))) m w b s1 s2 s3 s4 a5 a6 a7 a8 a9 a10 a11 a12 a13 :=
      fun m w b a5 a6 a7 a8 a9 a10 a11 a12 a13 => ih (i + 1) (by omega) (by omega) m w b s1 s2 s3 s4 a5 a6 a7 a8 a9 a10 a11 a12 a13 (ww_P_OK hP')
    refine pk_le op 12 (fun _ => ww_law_103 hP' ha HJ) (fun g1 => pk_le 15 op (fun _ => ww_law_103 hP' ha HJ) (fun g2 => pk_eq (t % 3) (u % 3) (fun _ => ww_law_103 hP' ha HJ) (fun hac => ww_equivalent hP' ha hc (fun m' w' b' s5 s6 s7 s8 s9 s10 s11 s12 s13 _ => br_t rfl (ww_law_103 hP' ha HJ)) (fun m' w' b' s5 s6 s7 s8 s9 s10 s11 s12 s13 hA => ?_))))
    obtain ⟨_, y2, y3⟩ := hP'.1 (u % 3) hc
    exact absurd (fun e he => ww_Mir_W (hM (by omega) g2 hac) y2 y3 he) hA
theorem i_vc (xs : Nat → Int32) (L : Nat) (hL : L ≤ 260) : wpL_law (fun r => r = 1) L xs := by
  refine ⟨13, 565, by omega, by omega, ?_⟩
  refine ⟨by omega, by omega, by omega, by omega, by omega, by omega, by omega, by omega, by omega, by omega, by omega, by omega, by omega, by omega, by omega, by omega, by omega, by omega, by omega, by omega, by omega, by omega, by omega, by omega, by omega, by omega, ?_⟩
  refine pk_loop (fun f i s => wX_init_109 _ 13 565 13 565 0 0 0 f (nI i) s (fun _ => 0) (fun _ => 0) (fun _ => 0) (fun _ => 0) (fun _ => 0) (fun _ => 0) (fun _ => 0) (fun _ => 0) (fun _ => 0) (fun _ => 0) (fun _ => 0) (fun _ => 0)) (fun i s => ∀ j, j < i → s j = nI 1) 3 0 (fun _ => 0) (by omega) lt_0 ?_ ?_
  · intro f s h
    have hK : ww_OK s (fun _ => 0) (fun _ => 0) (fun _ => 0) := ⟨fun j hj => ⟨1, h j hj, by omega, by omega⟩, fun k _ => ⟨0, rfl⟩, fun k _ => ⟨0, rfl⟩, fun k _ => ⟨0, rfl⟩⟩
    exact pk_le 3 3 (fun _ => ⟨131, ww_law_10 (post := fun r => r = 1) hL rfl 130 0 (by omega) (by omega) _ _ _ _ _ _ _ _ _ _ _ _ _ _ _ _ hK⟩) (fun z => absurd z (by omega))
  · intro f i s hi h hw
    exact pk_le 3 i (fun z => absurd z (by omega)) (fun _ => ⟨pk_in i 3 hi, nm_r (e' := upd s i (nI 1)) (by rw [nI_clamp (by omega)]; rfl) (nm_r (nI_1 i) (hw _ (ww_fill (f := fun _ => nI 1) h rfl)))⟩)
end
