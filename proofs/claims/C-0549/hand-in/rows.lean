section
/-! pure rows to paste: stores, nI and lN arithmetic, masks, shifts, narrowing, branches by naturals (pk_le, pk_lt, pk_eq), loops (lp1 .. lp16: the measure of the state; rp1 ..: recursion), negatives. Take what you need -/
theorem pk_us {f : Nat → Int32} {k : Nat} {x : Int32} : upd f k x k = x := if_pos rfl
theorem pk_un {f : Nat → Int32} {k j : Nat} {x : Int32} (h : j ≠ k) : upd f k x j = f j := if_neg h
theorem pk_sub {a b : Nat} (h : b ≤ a) : nI a - nI b = nI (a - b) := by
  obtain ⟨c, rfl⟩ : ∃ c, a = c + b := ⟨a - b, by omega⟩
  rw [← nI_add, Int32.add_sub_cancel, Nat.add_sub_cancel]
theorem pk_m1 (n : Nat) : nI (n + 1) + (-1) = nI n := by
  rw [← nI_1, Int32.add_assoc, show (1 : Int32) + (-1) = 0 from rfl, Int32.add_zero]
theorem pk_mul (a b : Nat) : nI a * nI b = nI (a * b) := (Int32.ofNat_mul a b).symm
theorem pk_div {a d : Nat} (ha : a < 2 ^ 31) (h0 : 0 < d) (hd : d < 2 ^ 31) : nI a / nI d = nI (a / d) := by
  apply Int32.toInt_inj.mp
  rw [lg_idiv_nonneg (by rw [nI_toInt ha]; omega) (by rw [nI_toInt hd]; omega), nI_toInt ha, nI_toInt hd, nI_toInt (Nat.lt_of_le_of_lt (Nat.div_le_self a d) ha)]
  first | rfl | exact (Int.natCast_ediv _ _).symm
theorem pk_rem {a d : Nat} (ha : a < 2 ^ 31) (h0 : 0 < d) (hd : d < 2 ^ 31) : nI a - nI a / nI d * nI d = nI (a % d) := by
  rw [pk_div ha h0 hd, pk_mul, pk_sub (Nat.div_mul_le_self a d)]
  exact congrArg nI (by have := Nat.div_add_mod' a d; omega)
theorem pk_sub_toInt {a b : Nat} (ha : a < 2 ^ 30) (hb : b < 2 ^ 30) : (nI a - nI b).toInt = (a : Int) - b := by
  rw [Int32.toInt_sub, nI_toInt (by omega), nI_toInt (by omega)]
  exact Int.bmod_eq_of_le (by omega) (by omega)
theorem pk_sneg {a b : Nat} (hb : b < 2 ^ 30) (h : a < b) : nI a - nI b < 0 := by
  rw [Int32.lt_iff_toInt_lt, pk_sub_toInt (by omega) hb, show (0 : Int32).toInt = 0 from by decide]
  omega
theorem pk_ix (x : Int32) {n : Nat} (hn : n < 2 ^ 31) : x < 0 ∨ nI n ≤ x ∨ ∃ j : Nat, j < n ∧ x = nI j := by
  by_cases h : x < 0
  · exact Or.inl h
  · obtain ⟨j, hj, rfl⟩ := nI_of h
    by_cases h2 : j < n
    · exact Or.inr (Or.inr ⟨j, h2, rfl⟩)
    · exact Or.inr (Or.inl (nI_le (by omega) hj))
theorem pk_le {x y : Int32} {A B : Prop} (a b : Nat) (f : a ≤ b → A) (g : b < a → B) (hx : x = nI a := by rfl) (hy : y = nI b := by rfl) (ha : a < 2 ^ 31 := by omega) (hb : b < 2 ^ 31 := by omega) : (x ≤ y → A) ∧ (¬ x ≤ y → B) := by
  subst hx hy
  rw [nI_leI ha hb]
  exact ⟨f, fun z => g (by omega)⟩
theorem pk_lt {x y : Int32} {A B : Prop} (a b : Nat) (f : a < b → A) (g : b ≤ a → B) (hx : x = nI a := by rfl) (hy : y = nI b := by rfl) (ha : a < 2 ^ 31 := by omega) (hb : b < 2 ^ 31 := by omega) : (x < y → A) ∧ (¬ x < y → B) := by
  subst hx hy
  rw [nI_ltI ha hb]
  exact ⟨f, fun z => g (by omega)⟩
theorem pk_eq {x y : Int32} {A B : Prop} (a b : Nat) (f : a = b → A) (g : a ≠ b → B) (hx : x = nI a := by rfl) (hy : y = nI b := by rfl) (ha : a < 2 ^ 31 := by omega) (hb : b < 2 ^ 31 := by omega) : (x = y → A) ∧ (¬ x = y → B) := by
  subst hx hy
  rw [nI_eq ha hb]
  exact ⟨f, g⟩
theorem pk_in {x : Int32} (n N : Nat) (h : n < N) (hx : x = nI n := by rfl) (hN : N < 2 ^ 31 := by omega) : vp_in x N := by
  subst hx
  exact vp_in_nI h hN
theorem pk_cl {x : Int32} (n : Nat) (hx : x = nI n := by rfl) (h : n < 2 ^ 31 := by omega) : x.toNatClampNeg = n := by
  subst hx
  exact nI_clamp h
end
section
/-! the meaning of items: a state is (a number has just been read?, the frames of unfinished sums, the innermost first); a frame (S, Q, m) with number m is worth S + Q * m -/
abbrev es_F : Type := Int32 × Int32 × Option Int32
abbrev es_S : Type := Bool × List es_F
abbrev es_L : Type := List (Int32 × Int32)
def es_mx (a b : Int32) : Int32 := if a ≤ b then b else a
theorem es_mx_t (a b : Int32) : (es_mx a b).toInt = max a.toInt b.toInt := by
  unfold es_mx
  split <;> rename_i h <;> rw [Int32.le_iff_toInt_le] at h <;> omega
theorem es_mx_as (a b c : Int32) : es_mx (es_mx a b) c = es_mx a (es_mx b c) := by
  apply Int32.toInt_inj.mp
  simp only [es_mx_t]
  omega
def es_bd (k : Int32) : Int32 := if k = 1 then 1 else if k = 2 then 1 else if k = 3 then 2 else if k = 4 then 3 else 0
def es_io (k : Int32) : Bool := if k < 1 then false else if 4 < k then false else true
def es_ap (o a b : Int32) : Int32 := if o = 1 then a + b else if o = 2 then a - b else if o = 3 then a * b else es_mx a b
def es_ch (f a o b : Int32) : Int32 := if f = 2 then (if o = 1 then a - b else a + b) else es_ap o a b
def es_co (f a o b : Int32) : Int32 := if es_io f = true ∧ es_bd f = es_bd o then es_ch f a o b else es_ap o a b
theorem es_io4 {k : Int32} (h : es_io k = true) : k = 1 ∨ k = 2 ∨ k = 3 ∨ k = 4 := by
  unfold es_io at h
  by_cases a : k < 1
  · rw [if_pos a] at h; cases h
  · rw [if_neg a] at h
    by_cases b : 4 < k
    · rw [if_pos b] at h; cases h
    · rw [Int32.lt_iff_toInt_lt, show (1 : Int32).toInt = 1 from by decide] at a
      rw [Int32.lt_iff_toInt_lt, show (4 : Int32).toInt = 4 from by decide] at b
      have e : k.toInt = 1 ∨ k.toInt = 2 ∨ k.toInt = 3 ∨ k.toInt = 4 := by omega
      rcases e with e | e | e | e
      · exact Or.inl (Int32.toInt_inj.mp (by rw [e]; decide))
      · exact Or.inr (Or.inl (Int32.toInt_inj.mp (by rw [e]; decide)))
      · exact Or.inr (Or.inr (Or.inl (Int32.toInt_inj.mp (by rw [e]; decide))))
      · exact Or.inr (Or.inr (Or.inr (Int32.toInt_inj.mp (by rw [e]; decide))))
def es_tk (w : es_F) (v : Int32) : es_F := (w.1, w.2.1, some (match w.2.2 with | none => v | some m => es_mx m v))
def es_vl (w : es_F) : Int32 := w.1 + w.2.1 * w.2.2.getD 0
def es_os (k : Int32) (w : es_F) : es_F := if k = 1 then (es_vl w, 1, none) else if k = 2 then (es_vl w, -1, none) else if k = 3 then (w.1, w.2.1 * w.2.2.getD 0, none) else w
def es_sN (v : Int32) : es_S → Option es_S
  | (false, w :: T) => some (true, es_tk w v :: T)
  | _ => none
def es_sO : es_S → Option es_S
  | (false, T) => some (false, (0, 1, none) :: T)
  | _ => none
def es_sC : es_S → Option es_S
  | (true, w :: g :: T) => some (true, es_tk g (es_vl w) :: T)
  | _ => none
def es_sP (k : Int32) : es_S → Option es_S
  | (true, w :: T) => some (false, es_os k w :: T)
  | _ => none
def es_st (x : Int32 × Int32) (s : es_S) : Option es_S :=
  if x.1 = 0 then es_sN x.2 s else if x.1 = 5 then es_sO s else if x.1 = 6 then es_sC s else es_sP x.1 s
def es_rn : es_L → Option es_S → Option es_S
  | [], s => s
  | x :: L, s => (es_rn L s).bind (es_st x)
theorem es_rn_c (x : Int32 × Int32) (L : es_L) (s : Option es_S) : es_rn (x :: L) s = (es_rn L s).bind (es_st x) := rfl
theorem es_rn_ap (A B : es_L) (s : Option es_S) : es_rn (A ++ B) s = es_rn A (es_rn B s) := by
  induction A with
  | nil => rfl
  | cons x A ih => rw [List.cons_append, es_rn_c, es_rn_c, ih]
theorem es_rn_no (A : es_L) : es_rn A none = none := by
  induction A with
  | nil => rfl
  | cons x A ih => rw [es_rn_c, ih]; rfl
theorem es_st0 {v : Int32} {s : es_S} : es_st (0, v) s = es_sN v s := if_pos rfl
theorem es_st5 {n : Int32} {s : es_S} : es_st (5, n) s = es_sO s := (if_neg (show ¬ (5 : Int32) = 0 from by decide)).trans (if_pos rfl)
theorem es_st6 {n : Int32} {s : es_S} : es_st (6, n) s = es_sC s := (if_neg (show ¬ (6 : Int32) = 0 from by decide)).trans ((if_neg (show ¬ (6 : Int32) = 5 from by decide)).trans (if_pos rfl))
theorem es_st_o {k n : Int32} {s : es_S} (h0 : k ≠ 0) (h5 : k ≠ 5) (h6 : k ≠ 6) : es_st (k, n) s = es_sP k s := (if_neg h0).trans ((if_neg h5).trans (if_neg h6))
theorem es_stP {k n : Int32} {s : es_S} (h : es_io k = true) : es_st (k, n) s = es_sP k s := by
  rcases es_io4 h with rfl | rfl | rfl | rfl <;> exact es_st_o (by decide) (by decide) (by decide)
theorem es_os1 {w : es_F} : es_os 1 w = (es_vl w, 1, none) := if_pos rfl
theorem es_os2 {w : es_F} : es_os 2 w = (es_vl w, -1, none) := (if_neg (by decide)).trans (if_pos rfl)
theorem es_os3 {w : es_F} : es_os 3 w = (w.1, w.2.1 * w.2.2.getD 0, none) := (if_neg (by decide)).trans ((if_neg (by decide)).trans (if_pos rfl))
theorem es_os4 {w : es_F} : es_os 4 w = w := (if_neg (by decide)).trans ((if_neg (by decide)).trans (if_neg (by decide)))
/-- the frame behind an OPEN or an operator -/
def es_Aft (f : Int32) (w : es_F) : Prop := (f ≠ 4 → w.2.2 = none) ∧ (f = 1 ∨ f = 5 → w.2.1 = 1) ∧ (f = 2 → w.2.1 = -1)
theorem es_bef {f m : Int32} {s s' : es_S} (hf : f = 5 ∨ es_io f = true) (h : es_st (f, m) s = some s') : ∃ w T, s' = (false, w :: T) ∧ es_Aft f w := by
  rcases hf with rfl | hf
  · rw [es_st5] at h
    rcases s with ⟨b, T⟩
    cases b with
    | true => cases h
    | false =>
      cases h
      exact ⟨_, _, rfl, fun _ => rfl, fun _ => rfl, fun e => absurd e (by decide)⟩
  · rw [es_stP hf] at h
    rcases s with ⟨b, T⟩
    cases b with
    | false => cases h
    | true =>
      cases T with
      | nil => cases h
      | cons w T =>
        cases h
        refine ⟨_, _, rfl, ?_⟩
        rcases es_io4 hf with rfl | rfl | rfl | rfl
        · rw [es_os1]; exact ⟨fun _ => rfl, fun _ => rfl, fun e => absurd e (by decide)⟩
        · rw [es_os2]; exact ⟨fun _ => rfl, fun e => absurd e (by decide), fun _ => rfl⟩
        · rw [es_os3]; exact ⟨fun _ => rfl, fun e => absurd e (by decide), fun e => absurd e (by decide)⟩
        · exact ⟨fun e => absurd rfl e, fun e => absurd e (by decide), fun e => absurd e (by decide)⟩
/-- two frames that an item with binding at most c doesn't tell apart -/
def es_Alk (c : Int32) (w1 w2 : es_F) : Prop := es_vl w1 = es_vl w2 ∧ (c ≠ 1 → es_os 3 w1 = es_os 3 w2) ∧ (c = 3 → w1 = w2)
theorem es_alk (f a o b : Int32) (w : es_F) (hf : f = 5 ∨ es_io f = true) (ho : es_io o = true) (hl : ¬ es_bd o < es_bd f) (hw : es_Aft f w) :
    es_Alk (es_bd o) (es_tk (es_os o (es_tk w a)) b) (es_tk w (es_co f a o b)) := by
  obtain ⟨S, Q, m⟩ := w
  obtain ⟨h4, h1, h2⟩ := hw
  rcases es_io4 ho with rfl | rfl | rfl | rfl
  · have hf' : f = 5 ∨ f = 1 ∨ f = 2 := by
      rcases hf with hf | hf
      · exact Or.inl hf
      · rcases es_io4 hf with rfl | rfl | rfl | rfl
        · exact Or.inr (Or.inl rfl)
        · exact Or.inr (Or.inr rfl)
        · exact absurd (by decide) hl
        · exact absurd (by decide) hl
    rw [es_os1]
    refine ⟨?_, fun e => absurd rfl e, fun e => absurd e (by decide)⟩
    rcases hf' with rfl | rfl | rfl
    · have e4 : m = none := h4 (by decide)
      have e1 : Q = 1 := h1 (Or.inr rfl)
      subst e4 e1
      have e : es_co 5 a 1 b = a + b := rfl
      rw [e]; show (S + 1 * a) + 1 * b = S + 1 * (a + b)
      grind
    · have e4 : m = none := h4 (by decide)
      have e1 : Q = 1 := h1 (Or.inl rfl)
      subst e4 e1
      have e : es_co 1 a 1 b = a + b := rfl
      rw [e]; show (S + 1 * a) + 1 * b = S + 1 * (a + b)
      grind
    · have e4 : m = none := h4 (by decide)
      have e1 : Q = -1 := h2 rfl
      subst e4 e1
      have e : es_co 2 a 1 b = a - b := rfl
      rw [e]; show (S + -1 * a) + 1 * b = S + -1 * (a - b)
      grind
  · have hf' : f = 5 ∨ f = 1 ∨ f = 2 := by
      rcases hf with hf | hf
      · exact Or.inl hf
      · rcases es_io4 hf with rfl | rfl | rfl | rfl
        · exact Or.inr (Or.inl rfl)
        · exact Or.inr (Or.inr rfl)
        · exact absurd (by decide) hl
        · exact absurd (by decide) hl
    rw [es_os2]
    refine ⟨?_, fun e => absurd rfl e, fun e => absurd e (by decide)⟩
    rcases hf' with rfl | rfl | rfl
    · have e4 : m = none := h4 (by decide)
      have e1 : Q = 1 := h1 (Or.inr rfl)
      subst e4 e1
      have e : es_co 5 a 2 b = a - b := rfl
      rw [e]; show (S + 1 * a) + -1 * b = S + 1 * (a - b)
      grind
    · have e4 : m = none := h4 (by decide)
      have e1 : Q = 1 := h1 (Or.inl rfl)
      subst e4 e1
      have e : es_co 1 a 2 b = a - b := rfl
      rw [e]; show (S + 1 * a) + -1 * b = S + 1 * (a - b)
      grind
    · have e4 : m = none := h4 (by decide)
      have e1 : Q = -1 := h2 rfl
      subst e4 e1
      have e : es_co 2 a 2 b = a + b := rfl
      rw [e]; show (S + -1 * a) + -1 * b = S + -1 * (a + b)
      grind
  · have e : es_co f a 3 b = a * b ∧ f ≠ 4 := by
      rcases hf with rfl | hf
      · exact ⟨rfl, by decide⟩
      · rcases es_io4 hf with rfl | rfl | rfl | rfl
        · exact ⟨rfl, by decide⟩
        · exact ⟨rfl, by decide⟩
        · exact ⟨rfl, by decide⟩
        · exact absurd (by decide) hl
    have e4 : m = none := h4 e.2
    subst e4
    rw [es_os3, e.1]
    refine ⟨?_, fun _ => ?_, fun e => absurd e (by decide)⟩
    · show S + Q * a * b = S + Q * (a * b)
      rw [Int32.mul_assoc]
    · rw [es_os3, es_os3]
      show (S, Q * a * b, none) = (S, Q * (a * b), none)
      rw [Int32.mul_assoc]
  · have e : es_co f a 4 b = es_mx a b := by
      rcases hf with rfl | hf
      · rfl
      · rcases es_io4 hf with rfl | rfl | rfl | rfl <;> rfl
    have e2 : es_tk (es_os 4 (es_tk (S, Q, m) a)) b = es_tk (S, Q, m) (es_co f a 4 b) := by
      rw [e, es_os4]
      cases m with
      | none => rfl
      | some m => show (S, Q, some (es_mx (es_mx m a) b)) = (S, Q, some (es_mx m (es_mx a b))); rw [es_mx_as]
    rw [e2]
    exact ⟨rfl, fun _ => rfl, fun _ => rfl⟩
theorem es_nxt {c : Int32} {w1 w2 : es_F} {T : List es_F} (x : Int32 × Int32) (hx : x.1 = 6 ∨ (es_io x.1 = true ∧ ¬ c < es_bd x.1)) (hc : c = 1 ∨ c = 2 ∨ c = 3) (h : es_Alk c w1 w2) : es_st x (true, w1 :: T) = es_st x (true, w2 :: T) := by
  obtain ⟨k, n⟩ := x
  obtain ⟨hv, h3, h4⟩ := h
  rcases hx with hx | ⟨hx, hl⟩
  · have e : k = 6 := hx
    subst e
    rw [es_st6, es_st6]
    cases T with
    | nil => rfl
    | cons g T => show some (true, es_tk g (es_vl w1) :: T) = some (true, es_tk g (es_vl w2) :: T); rw [hv]
  · rw [es_stP hx, es_stP hx]
    show some (false, es_os k w1 :: T) = some (false, es_os k w2 :: T)
    have e : es_os k w1 = es_os k w2 := by
      have hx' : es_io k = true := hx
      have hl : ¬ c < es_bd k := hl
      rcases es_io4 hx' with rfl | rfl | rfl | rfl
      · rw [es_os1, es_os1, hv]
      · rw [es_os2, es_os2, hv]
      · refine h3 ?_
        rcases hc with rfl | rfl | rfl
        · exact absurd (by decide) hl
        · decide
        · decide
      · rw [h4 ?_]
        rcases hc with rfl | rfl | rfl
        · exact absurd (by decide) hl
        · exact absurd (by decide) hl
        · rfl
    rw [e]
theorem es_bd3 {o : Int32} (h : es_io o = true) : es_bd o = 1 ∨ es_bd o = 2 ∨ es_bd o = 3 := by
  rcases es_io4 h with rfl | rfl | rfl | rfl
  · exact Or.inl rfl
  · exact Or.inl rfl
  · exact Or.inr (Or.inl rfl)
  · exact Or.inr (Or.inr rfl)
/-- one settling, with what comes behind it -/
theorem es_one {f m a o q b : Int32} (x : Int32 × Int32) (R : es_L) (s : Option es_S) (hf : f = 5 ∨ es_io f = true) (ho : es_io o = true) (hl : ¬ es_bd o < es_bd f)
    (hx : x.1 = 6 ∨ (es_io x.1 = true ∧ ¬ es_bd o < es_bd x.1)) :
    es_rn (x :: (0, es_co f a o b) :: (f, m) :: R) s = es_rn (x :: (0, b) :: (o, q) :: (0, a) :: (f, m) :: R) s := by
  show ((es_rn ((f, m) :: R) s).bind (es_st (0, es_co f a o b))).bind (es_st x) = ((((es_rn ((f, m) :: R) s).bind (es_st (0, a))).bind (es_st (o, q))).bind (es_st (0, b))).bind (es_st x)
  generalize hg : es_rn ((f, m) :: R) s = g
  cases g with
  | none => rfl
  | some g =>
    rw [es_rn_c] at hg
    cases hr : es_rn R s with
    | none => rw [hr] at hg; cases hg
    | some r =>
      rw [hr] at hg
      obtain ⟨w, T, rfl, hw⟩ := es_bef hf hg
      show ((es_st (0, es_co f a o b) (false, w :: T)).bind (es_st x)) = ((((es_st (0, a) (false, w :: T)).bind (es_st (o, q))).bind (es_st (0, b))).bind (es_st x))
      rw [es_st0, es_st0]
      show es_st x (true, es_tk w (es_co f a o b) :: T) = (((es_st (o, q) (true, es_tk w a :: T)).bind (es_st (0, b))).bind (es_st x))
      rw [es_stP ho]
      show es_st x (true, es_tk w (es_co f a o b) :: T) = ((es_st (0, b) (false, es_os o (es_tk w a) :: T)).bind (es_st x))
      rw [es_st0]
      exact (es_nxt x hx (es_bd3 ho) (es_alk f a o b w hf ho hl hw)).symm
end
section
/-! a row as a list, the last item first: settling, closing, pushing -/
def es_cs (c k0 o k2 f : Int32) : Bool := decide (k0 = 0) && es_io o && decide (k2 = 0) && (decide (f = 5) || es_io f) && decide (¬ es_bd o < c) && decide (¬ es_bd o < es_bd f)
def es_s1 (c : Int32) : es_L → Option es_L
  | (k0, b) :: (o, _) :: (k2, a) :: (f, m) :: T => if es_cs c k0 o k2 f = true then some ((k2, es_co f a o b) :: (f, m) :: T) else none
  | _ => none
def es_se (c : Int32) : Nat → es_L → es_L
  | 0, R => R
  | n + 1, R => match es_s1 c R with
    | none => R
    | some R' => es_se c n R'
theorem es_se_n {c : Int32} {n : Nat} {R : es_L} (h : es_s1 c R = none) : es_se c n R = R := by
  cases n with
  | zero => rfl
  | succ n => show (match es_s1 c R with | none => R | some R' => es_se c n R') = R; rw [h]
theorem es_se_s {c : Int32} {n : Nat} {R R' : es_L} (h : es_s1 c R = some R') : es_se c (n + 1) R = es_se c n R' := by
  show (match es_s1 c R with | none => R | some R' => es_se c n R') = _; rw [h]
theorem es_cs_i {c k0 o k2 f : Int32} (h : es_cs c k0 o k2 f = true) : k0 = 0 ∧ k2 = 0 ∧ es_io o = true ∧ (f = 5 ∨ es_io f = true) ∧ ¬ es_bd o < c ∧ ¬ es_bd o < es_bd f := by
  unfold es_cs at h
  simp only [Bool.and_eq_true, Bool.or_eq_true, decide_eq_true_eq] at h
  obtain ⟨⟨⟨⟨⟨a, b⟩, c⟩, d⟩, e⟩, g⟩ := h
  exact ⟨a, c, b, d, e, g⟩
theorem es_cs_p {c k0 o k2 f : Int32} (a : k0 = 0) (k : k2 = 0) (b : es_io o = true) (d : f = 5 ∨ es_io f = true) (e : ¬ es_bd o < c) (g : ¬ es_bd o < es_bd f) : es_cs c k0 o k2 f = true := by
  unfold es_cs
  simp only [Bool.and_eq_true, Bool.or_eq_true, decide_eq_true_eq]
  exact ⟨⟨⟨⟨⟨a, b⟩, k⟩, d⟩, e⟩, g⟩
theorem es_s1_i {c : Int32} {R R' : es_L} (h : es_s1 c R = some R') : ∃ b o q a f m T, R = (0, b) :: (o, q) :: (0, a) :: (f, m) :: T ∧ R' = (0, es_co f a o b) :: (f, m) :: T ∧ es_io o = true ∧ (f = 5 ∨ es_io f = true) ∧ ¬ es_bd o < c ∧ ¬ es_bd o < es_bd f := by
  match R, h with
  | (k0, b) :: (o, q) :: (k2, a) :: (f, m) :: T, h =>
    by_cases hc : es_cs c k0 o k2 f = true
    · have h' : some ((k2, es_co f a o b) :: (f, m) :: T) = some R' := (if_pos hc).symm.trans h
      obtain ⟨e0, e2, e3, e4, e5, e6⟩ := es_cs_i hc
      subst e0 e2
      cases h'
      exact ⟨b, o, q, a, f, m, T, rfl, rfl, e3, e4, e5, e6⟩
    · have h' : none = some R' := (if_neg hc).symm.trans h
      cases h'
theorem es_s1_rn {c : Int32} {R R' : es_L} (h : es_s1 c R = some R') (x : Int32 × Int32) (hx : x.1 = 6 ∨ (es_io x.1 = true ∧ es_bd x.1 = c)) (s : Option es_S) : es_rn (x :: R') s = es_rn (x :: R) s := by
  obtain ⟨b, o, q, a, f, m, T, rfl, rfl, ho, hf, hc, hl⟩ := es_s1_i h
  refine es_one x T s hf ho hl ?_
  rcases hx with hx | ⟨hx, e⟩
  · exact Or.inl hx
  · exact Or.inr ⟨hx, by rw [e]; exact hc⟩
theorem es_se_rn {c : Int32} (x : Int32 × Int32) (hx : x.1 = 6 ∨ (es_io x.1 = true ∧ es_bd x.1 = c)) (s : Option es_S) : ∀ (n : Nat) (R : es_L), es_rn (x :: es_se c n R) s = es_rn (x :: R) s := by
  intro n
  induction n with
  | zero => intro R; rfl
  | succ n ih =>
    intro R
    cases h : es_s1 c R with
    | none => rw [es_se_n h]
    | some R' => rw [es_se_s h, ih R', es_s1_rn h x hx s]
def es_cl : es_L → es_L
  | (k0, v) :: (k1, m) :: T => if k0 = 0 ∧ k1 = 5 then (0, v) :: T else (6, 0) :: (k0, v) :: (k1, m) :: T
  | R => (6, 0) :: R
theorem es_cl_y {k0 v : Int32} {x : Int32 × Int32} {T : es_L} (h0 : k0 = 0) (h1 : x.1 = 5) : es_cl ((k0, v) :: x :: T) = (0, v) :: T := by
  obtain ⟨k1, m⟩ := x
  show (if k0 = 0 ∧ k1 = 5 then (0, v) :: T else (6, 0) :: (k0, v) :: (k1, m) :: T) = _
  exact if_pos ⟨h0, h1⟩
theorem es_cl_i (R : es_L) : (∃ v m T, R = (0, v) :: (5, m) :: T ∧ es_cl R = (0, v) :: T) ∨ es_cl R = (6, 0) :: R := by
  match R with
  | [] => exact Or.inr rfl
  | [(k, v)] => exact Or.inr rfl
  | (k0, v) :: (k1, m) :: T =>
    by_cases h : k0 = 0 ∧ k1 = 5
    · obtain ⟨rfl, rfl⟩ := h
      exact Or.inl ⟨v, m, T, rfl, es_cl_y rfl rfl⟩
    · exact Or.inr (if_neg h)
theorem es_zone (v : Int32) : (0 : Int32) + 1 * v = v := by rw [Int32.one_mul, Int32.zero_add]
theorem es_cl1 (v m n : Int32) (s : Option es_S) (T : es_L) : es_rn ((0, v) :: T) s = es_rn ((6, n) :: (0, v) :: (5, m) :: T) s := by
  show (es_rn T s).bind (es_st (0, v)) = (((es_rn T s).bind (es_st (5, m))).bind (es_st (0, v))).bind (es_st (6, n))
  cases es_rn T s with
  | none => rfl
  | some g =>
    show es_st (0, v) g = ((es_st (5, m) g).bind (es_st (0, v))).bind (es_st (6, n))
    rw [es_st0, es_st5]
    obtain ⟨h, L⟩ := g
    cases h with
    | true => rfl
    | false =>
      show es_sN v (false, L) = (es_st (0, v) (false, (0, 1, none) :: L)).bind (es_st (6, n))
      rw [es_st0]
      show es_sN v (false, L) = es_st (6, n) (true, es_tk (0, 1, none) v :: L)
      rw [es_st6]
      cases L with
      | nil => rfl
      | cons w L =>
        show some (true, es_tk w v :: L) = some (true, es_tk w (0 + 1 * v) :: L)
        rw [es_zone]
theorem es_st_6 (n n' : Int32) : es_st (6, n) = es_st (6, n') := by
  funext s; rw [es_st6, es_st6]
theorem es_st_P {k : Int32} (n n' : Int32) (h : es_io k = true) : es_st (k, n) = es_st (k, n') := by
  funext s; rw [es_stP h, es_stP h]
theorem es_cl_rn (R : es_L) (n : Int32) (s : Option es_S) : es_rn (es_cl R) s = es_rn ((6, n) :: R) s := by
  rcases es_cl_i R with ⟨v, m, T, rfl, e⟩ | e
  · rw [e]; exact es_cl1 v m n s T
  · rw [e, es_rn_c, es_rn_c, es_st_6 0 n]
def es_kf : es_L → Nat → Int32
  | [], _ => 7
  | x :: _, 0 => x.1
  | _ :: R, b + 1 => es_kf R b
def es_en (k : Int32) : Bool := decide (k = 0) || decide (k = 6)
def es_be (k : Int32) : Bool := decide (k = 0) || decide (k = 5)
def es_pu (R : es_L) (k n : Int32) : Option es_L :=
  if es_kf R 0 ≠ 7 ∧ es_en (es_kf R 0) = es_be k then none
  else if es_io k = true then some ((k, 0) :: es_se (es_bd k) 72 R)
  else if k = 6 then some (es_cl (es_se 0 72 R)) else some ((k, n) :: R)
theorem es_pu_i {R R' : es_L} {k n : Int32} (h : es_pu R k n = some R') : ¬ (es_kf R 0 ≠ 7 ∧ es_en (es_kf R 0) = es_be k) ∧
    ((es_io k = true ∧ R' = (k, 0) :: es_se (es_bd k) 72 R) ∨ (k = 6 ∧ R' = es_cl (es_se 0 72 R)) ∨ (¬ es_io k = true ∧ k ≠ 6 ∧ R' = (k, n) :: R)) := by
  unfold es_pu at h
  by_cases h1 : es_kf R 0 ≠ 7 ∧ es_en (es_kf R 0) = es_be k
  · rw [if_pos h1] at h; cases h
  · rw [if_neg h1] at h
    refine ⟨h1, ?_⟩
    by_cases h2 : es_io k = true
    · rw [if_pos h2] at h; cases h; exact Or.inl ⟨h2, rfl⟩
    · rw [if_neg h2] at h
      by_cases h3 : k = 6
      · rw [if_pos h3] at h; cases h; exact Or.inr (Or.inl ⟨h3, rfl⟩)
      · rw [if_neg h3] at h; cases h; exact Or.inr (Or.inr ⟨h2, h3, rfl⟩)
theorem es_pu_n {R : es_L} {k n : Int32} (h : es_pu R k n = none) : es_kf R 0 ≠ 7 ∧ es_en (es_kf R 0) = es_be k := by
  unfold es_pu at h
  by_cases h1 : es_kf R 0 ≠ 7 ∧ es_en (es_kf R 0) = es_be k
  · exact h1
  · rw [if_neg h1] at h
    by_cases h2 : es_io k = true
    · rw [if_pos h2] at h; cases h
    · rw [if_neg h2] at h
      by_cases h3 : k = 6
      · rw [if_pos h3] at h; cases h
      · rw [if_neg h3] at h; cases h
theorem es_pu_so {R R' : es_L} {k n : Int32} (h : es_pu R k n = some R') (s : Option es_S) : es_rn R' s = es_rn ((k, n) :: R) s := by
  rcases (es_pu_i h).2 with ⟨ho, rfl⟩ | ⟨rfl, rfl⟩ | ⟨_, _, rfl⟩
  · rw [es_se_rn (c := es_bd k) (k, 0) (Or.inr ⟨ho, rfl⟩) s 72 R, es_rn_c, es_rn_c, es_st_P 0 n ho]
  · rw [es_cl_rn _ n, es_se_rn (c := 0) (6, n) (Or.inl rfl) s 72 R]
  · rfl
theorem es_st_en {y : Int32 × Int32} {s : es_S} {h : Bool} {L : List es_F} (e : es_st y s = some (h, L)) : h = es_en y.1 := by
  obtain ⟨k, n⟩ := y
  obtain ⟨b, T⟩ := s
  unfold es_st at e
  dsimp only at e
  by_cases h0 : k = 0
  · rw [if_pos h0] at e
    subst h0
    cases b with
    | true => cases e
    | false =>
      cases T with
      | nil => cases e
      | cons w T => cases e; rfl
  · rw [if_neg h0] at e
    by_cases h5 : k = 5
    · rw [if_pos h5] at e
      subst h5
      cases b with
      | true => cases e
      | false => cases e; rfl
    · rw [if_neg h5] at e
      by_cases h6 : k = 6
      · rw [if_pos h6] at e
        subst h6
        cases b with
        | false => cases e
        | true =>
          cases T with
          | nil => cases e
          | cons w T =>
            cases T with
            | nil => cases e
            | cons g T => cases e; rfl
      · rw [if_neg h6] at e
        have e2 : es_en k = false := by unfold es_en; rw [decide_eq_false h0, decide_eq_false h6]; rfl
        show h = es_en k
        rw [e2]
        cases b with
        | false => cases e
        | true =>
          cases T with
          | nil => cases e
          | cons w T => cases e; rfl
theorem es_st_be {y : Int32 × Int32} {h : Bool} {L : List es_F} {s' : es_S} (e : es_st y (h, L) = some s') : h = !es_be y.1 := by
  obtain ⟨k, n⟩ := y
  unfold es_st at e
  dsimp only at e
  by_cases h0 : k = 0
  · rw [if_pos h0] at e
    subst h0
    cases h with
    | true => cases e
    | false => rfl
  · rw [if_neg h0] at e
    by_cases h5 : k = 5
    · rw [if_pos h5] at e
      subst h5
      cases h with
      | true => cases e
      | false => rfl
    · rw [if_neg h5] at e
      have e2 : es_be k = false := by unfold es_be; rw [decide_eq_false h0, decide_eq_false h5]; rfl
      show h = !es_be k
      rw [e2]
      by_cases h6 : k = 6
      · rw [if_pos h6] at e
        cases h with
        | true => rfl
        | false => cases e
      · rw [if_neg h6] at e
        cases h with
        | true => rfl
        | false => cases e
theorem es_pu_no {R : es_L} {k n : Int32} (h : es_pu R k n = none) (s : Option es_S) : es_rn ((k, n) :: R) s = none := by
  obtain ⟨h7, he⟩ := es_pu_n h
  cases R with
  | nil => exact absurd rfl h7
  | cons y R =>
    show ((es_rn R s).bind (es_st y)).bind (es_st (k, n)) = none
    cases hr : es_rn R s with
    | none => rfl
    | some r =>
      show (es_st y r).bind (es_st (k, n)) = none
      cases hy : es_st y r with
      | none => rfl
      | some t =>
        show es_st (k, n) t = none
        cases hk : es_st (k, n) t with
        | none => rfl
        | some t' =>
          obtain ⟨b, L⟩ := t
          have a1 := es_st_en hy
          have a2 := es_st_be hk
          have he' : es_en y.1 = es_be k := he
          have a2' : b = !es_be k := a2
          rw [a1, he'] at a2'
          cases hb : es_be k <;> rw [hb] at a2' <;> cases a2'
/-! lengths -/
theorem es_s1_ln {c : Int32} {R R' : es_L} (h : es_s1 c R = some R') : R.length = R'.length + 2 ∧ 2 ≤ R'.length := by
  obtain ⟨b, o, q, a, f, m, T, rfl, rfl, _⟩ := es_s1_i h
  exact ⟨rfl, by simp only [List.length_cons]; omega⟩
theorem es_se_ln {c : Int32} : ∀ (n : Nat) (R : es_L), (es_se c n R).length ≤ R.length ∧ (1 ≤ R.length → 1 ≤ (es_se c n R).length) := by
  intro n
  induction n with
  | zero => intro R; exact ⟨Nat.le_refl _, fun h => h⟩
  | succ n ih =>
    intro R
    cases h : es_s1 c R with
    | none => rw [es_se_n h]; exact ⟨Nat.le_refl _, fun h => h⟩
    | some R' =>
      have a := es_s1_ln h
      have b := ih R'
      rw [es_se_s h]
      exact ⟨by omega, fun _ => b.2 (by omega)⟩
theorem es_cl_ln (R : es_L) : (es_cl R).length ≤ R.length + 1 ∧ 1 ≤ (es_cl R).length := by
  rcases es_cl_i R with ⟨v, m, T, rfl, e⟩ | e
  · rw [e]; simp only [List.length_cons]; omega
  · rw [e]; simp only [List.length_cons]; omega
theorem es_pu_ln {R R' : es_L} {k n : Int32} (h : es_pu R k n = some R') : R'.length ≤ R.length + 1 ∧ 1 ≤ R'.length := by
  rcases (es_pu_i h).2 with ⟨ho, rfl⟩ | ⟨rfl, rfl⟩ | ⟨_, _, rfl⟩
  · have a := es_se_ln (c := es_bd k) 72 R
    simp only [List.length_cons]; omega
  · have a := es_se_ln (c := 0) 72 R
    have b := es_cl_ln (es_se 0 72 R)
    omega
  · simp only [List.length_cons]; omega
end
section
/-! the shape of a row that begins with its part's own bracket: no CLOSE, and behind each OPEN operators that bind more and more -/
def es_ok (k : Int32) : Prop := k = 0 ∨ k = 5 ∨ k = 6 ∨ es_io k = true
def es_gW : es_L → Prop
  | [] => False
  | [x] => x.1 = 5
  | x :: y :: R => (x.1 = 5 ∧ es_gW (y :: R)) ∨ (es_io x.1 = true ∧ y.1 = 0 ∧ es_gW R ∧ es_bd (es_kf R 0) < es_bd x.1)
def es_gH : es_L → Prop
  | [] => False
  | x :: R => x.1 = 0 ∧ es_gW R
theorem es_io5 : ¬ es_io 5 = true := by decide
theorem es_gW_top {R : es_L} (h : es_gW R) : es_kf R 0 = 5 ∨ es_io (es_kf R 0) = true := by
  match R, h with
  | [x], h => exact Or.inl h
  | x :: y :: R, Or.inl h => exact Or.inl h.1
  | x :: y :: R, Or.inr h => exact Or.inr h.1
theorem es_gW_5 {R : es_L} {n : Int32} (h : es_gW R) : es_gW ((5, n) :: R) := by
  match R, h with
  | x :: R, h => exact Or.inl ⟨rfl, h⟩
theorem es_gW_o {R : es_L} {k n v : Int32} (hk : es_io k = true) (h : es_gW R) (hb : es_bd (es_kf R 0) < es_bd k) : es_gW ((k, n) :: (0, v) :: R) := Or.inr ⟨hk, rfl, h, hb⟩
theorem es_bd0 (k : Int32) : ¬ es_bd k < 0 := by
  unfold es_bd
  repeat' split
  all_goals decide
theorem es_bdp {k : Int32} (h : es_io k = true) : es_bd 5 < es_bd k := by
  rcases es_io4 h with rfl | rfl | rfl | rfl <;> decide
theorem es_en_o {k : Int32} (h : k = 5 ∨ es_io k = true) : es_en k = false ∧ k ≠ 7 := by
  rcases h with rfl | h
  · decide
  · rcases es_io4 h with rfl | rfl | rfl | rfl <;> decide
theorem es_se_g {c : Int32} : ∀ (n : Nat) (R : es_L), R.length ≤ n → es_gH R → es_gH (es_se c n R) ∧ (es_kf (es_se c n R) 1 = 5 ∨ es_bd (es_kf (es_se c n R) 1) < c) := by
  intro n
  induction n with
  | zero =>
    intro R hl hg
    match R, hl, hg with
    | x :: X, hl, hg => exact absurd hl (by simp only [List.length_cons]; omega)
  | succ n ih =>
    intro R hl hg
    cases h : es_s1 c R with
    | some R' =>
      rw [es_se_s h]
      have hn := es_s1_ln h
      refine ih R' (by omega) ?_
      obtain ⟨b, o, q, a, f, m, T, rfl, rfl, ho, hf, hc, hb⟩ := es_s1_i h
      obtain ⟨_, hg⟩ := hg
      rcases hg with hg | hg
      · have e : o = 5 := hg.1
        subst e
        exact absurd ho es_io5
      · exact ⟨rfl, hg.2.2.1⟩
    | none =>
      rw [es_se_n h]
      refine ⟨hg, ?_⟩
      match R, hg, h with
      | (k0, v) :: [x], hg, h => exact Or.inl hg.2
      | (k0, v) :: (o, q) :: (k2, a) :: T, hg, h =>
        obtain ⟨h0, hg⟩ := hg
        rcases hg with hg | ⟨ho, h2, hT, hb⟩
        · exact Or.inl hg.1
        · match T, hT, hb, h with
          | (f, m) :: T, hT, hb, h =>
            by_cases hc : es_bd o < c
            · exact Or.inr hc
            · have hb' : es_bd f < es_bd o := hb
              have e : es_cs c k0 o k2 f = true := es_cs_p h0 h2 ho (es_gW_top hT) hc (by rw [Int32.lt_iff_toInt_lt] at hb' ⊢; omega)
              have h' : some ((k2, es_co f a o v) :: (f, m) :: T) = (none : Option es_L) := (if_pos e).symm.trans h
              cases h'
theorem es_be_ok {k : Int32} (hk : es_ok k) (h : es_be k = true) : (k = 0 ∨ k = 5) ∧ ¬ es_io k = true ∧ k ≠ 6 := by
  rcases hk with rfl | rfl | rfl | hk
  · exact ⟨Or.inl rfl, by decide, by decide⟩
  · exact ⟨Or.inr rfl, by decide, by decide⟩
  · exact absurd h (by decide)
  · rcases es_io4 hk with rfl | rfl | rfl | rfl <;> exact absurd h (by decide)
theorem es_be_no {k : Int32} (hk : es_ok k) (h : ¬ es_be k = true) : k = 6 ∨ es_io k = true := by
  rcases hk with rfl | rfl | rfl | hk
  · exact absurd rfl h
  · exact absurd rfl h
  · exact Or.inl rfl
  · exact Or.inr hk
theorem es_pu_g {R R' : es_L} {k n : Int32} (hk : es_ok k) (hl : R.length ≤ 72) (hg : es_gW R ∨ es_gH R) (h : es_pu R k n = some R') : (es_gW R' ∨ es_gH R') ∨ (k = 6 ∧ ∃ v, R' = [(0, v)]) := by
  obtain ⟨h1, h2⟩ := es_pu_i h
  rcases hg with hg | hg
  · have t := es_en_o (es_gW_top hg)
    have hb : es_be k = true := by
      cases e : es_be k with
      | true => rfl
      | false => exact absurd ⟨t.2, by rw [t.1, e]⟩ h1
    obtain ⟨a, b, c⟩ := es_be_ok hk hb
    rcases h2 with ⟨ho, _⟩ | ⟨h6, _⟩ | ⟨_, _, e⟩
    · exact absurd ho b
    · exact absurd h6 c
    · rw [e]
      rcases a with rfl | rfl
      · exact Or.inl (Or.inr ⟨rfl, hg⟩)
      · exact Or.inl (Or.inl (es_gW_5 hg))
  · have e0 : es_kf R 0 = 0 := by
      match R, hg with
      | x :: R, hg => exact hg.1
    have hb : ¬ es_be k = true := by
      intro e
      exact h1 ⟨by rw [e0]; decide, by rw [e0, e]; decide⟩
    rcases h2 with ⟨ho, e⟩ | ⟨h6, e⟩ | ⟨a, b, _⟩
    · have s := es_se_g (c := es_bd k) 72 R hl hg
      rw [e]
      revert s
      generalize es_se (es_bd k) 72 R = R1
      intro s
      match R1, s with
      | (k0, v) :: X, ⟨⟨z, hX⟩, hb⟩ =>
        have z' : k0 = 0 := z
        subst z'
        refine Or.inl (Or.inl (es_gW_o ho hX ?_))
        rcases hb with hb | hb
        · have hb' : es_kf X 0 = 5 := hb
          rw [hb']; exact es_bdp ho
        · exact hb
    · have s := es_se_g (c := 0) 72 R hl hg
      rw [e]
      revert s
      generalize es_se 0 72 R = R1
      intro s
      match R1, s with
      | (k0, v) :: [x], ⟨⟨z, hX⟩, hb⟩ =>
        refine Or.inr ⟨h6, v, ?_⟩
        exact es_cl_y z hX
      | (k0, v) :: x :: y :: X, ⟨⟨z, hX⟩, hb⟩ =>
        have h5 : x.1 = 5 := by
          rcases hb with hb | hb
          · exact hb
          · exact absurd hb (es_bd0 _)
        rcases hX with hX | hX
        · refine Or.inl (Or.inr ?_)
          have e : es_cl ((k0, v) :: x :: y :: X) = (0, v) :: y :: X := es_cl_y z h5
          rw [e]
          exact ⟨rfl, hX.2⟩
        · have h' := hX.1
          rw [h5] at h'
          exact absurd h' es_io5
    · rcases es_be_no hk hb with h6 | ho
      · exact absurd h6 b
      · exact absurd ho a
/-! the first item of a row -/
def es_bo : es_L → Int32 × Int32
  | [] => (7, 0)
  | [x] => x
  | _ :: y :: R => es_bo (y :: R)
theorem es_bo_c (x : Int32 × Int32) {R : es_L} (h : 1 ≤ R.length) : es_bo (x :: R) = es_bo R := by
  match R, h with
  | y :: R, _ => rfl
theorem es_gW_bo : ∀ (R : es_L), es_gW R → (es_bo R).1 = 5 ∧ 1 ≤ R.length
  | [x], h => ⟨h, Nat.le_refl _⟩
  | x :: y :: R, Or.inl h => ⟨(es_gW_bo (y :: R) h.2).1, by simp only [List.length_cons]; omega⟩
  | x :: y :: R, Or.inr h => by
    have a := es_gW_bo R h.2.2.1
    refine ⟨?_, by simp only [List.length_cons]; omega⟩
    rw [es_bo_c x (by simp only [List.length_cons]; omega), es_bo_c y a.2]
    exact a.1
theorem es_gA_bo {R : es_L} (h : es_gW R ∨ es_gH R) : (es_bo R).1 = 5 ∧ 1 ≤ R.length := by
  rcases h with h | h
  · exact es_gW_bo R h
  · match R, h with
    | x :: R, h =>
      have a := es_gW_bo R h.2
      refine ⟨?_, by simp only [List.length_cons]; omega⟩
      rw [es_bo_c x a.2]
      exact a.1
theorem es_s1_bo {c : Int32} {R R' : es_L} (h : es_s1 c R = some R') : es_bo R' = es_bo R := by
  obtain ⟨b, o, q, a, f, m, T, rfl, rfl, _⟩ := es_s1_i h
  rfl
theorem es_se_bo {c : Int32} : ∀ (n : Nat) (R : es_L), es_bo (es_se c n R) = es_bo R := by
  intro n
  induction n with
  | zero => intro R; rfl
  | succ n ih =>
    intro R
    cases h : es_s1 c R with
    | none => rw [es_se_n h]
    | some R' => rw [es_se_s h, ih R', es_s1_bo h]
theorem es_pu_d {R R' : es_L} {k n : Int32} (hd : (es_bo R).1 = 0) (h : es_pu R k n = some R') : (es_bo R').1 = 0 ∧ 2 ≤ R'.length := by
  have hl : 1 ≤ R.length := by
    match R, hd with
    | [], hd => exact absurd hd (by decide)
    | x :: R, _ => simp only [List.length_cons]; omega
  rcases (es_pu_i h).2 with ⟨ho, rfl⟩ | ⟨rfl, rfl⟩ | ⟨_, _, rfl⟩
  · have a := (es_se_ln (c := es_bd k) 72 R).2 hl
    rw [es_bo_c _ a, es_se_bo]
    exact ⟨hd, by simp only [List.length_cons]; omega⟩
  · have a := (es_se_ln (c := 0) 72 R).2 hl
    have b := es_se_bo (c := 0) 72 R
    rcases es_cl_i (es_se 0 72 R) with ⟨v, m, T, e, e2⟩ | e2
    · rw [e2]
      rw [e] at b
      match T, b with
      | [], b =>
        rw [← b] at hd
        exact absurd hd (by show ¬ (5 : Int32) = 0; decide)
      | y :: T, b =>
        have b' : es_bo (y :: T) = es_bo R := b
        show (es_bo (y :: T)).1 = 0 ∧ _
        rw [b']
        exact ⟨hd, by simp only [List.length_cons]; omega⟩
    · rw [e2, es_bo_c _ a, b]
      exact ⟨hd, by simp only [List.length_cons]; omega⟩
  · rw [es_bo_c _ hl]
    exact ⟨hd, by simp only [List.length_cons]; omega⟩
/-! what such a row comes to from the start -/
def es_no : es_L → Nat
  | [] => 0
  | x :: R => (if x.1 = 5 then 1 else 0) + es_no R
def es_go : Option es_S := some (false, [])
theorem es_no5 {x : Int32 × Int32} {R : es_L} (h : x.1 = 5) : es_no (x :: R) = es_no R + 1 := by
  show (if x.1 = 5 then 1 else 0) + es_no R = _
  rw [if_pos h]; omega
theorem es_non {x : Int32 × Int32} {R : es_L} (h : x.1 ≠ 5) : es_no (x :: R) = es_no R := by
  show (if x.1 = 5 then 1 else 0) + es_no R = _
  rw [if_neg h]; omega
theorem es_no0 {v : Int32} {R : es_L} : es_no ((0, v) :: R) = es_no R := es_non (show (0 : Int32) ≠ 5 from by decide)
theorem es_nok {k n : Int32} {R : es_L} (h : k ≠ 5) : es_no ((k, n) :: R) = es_no R := es_non h
theorem es_Aft0 (S : Int32) : es_Aft 5 (S, 1, none) := ⟨fun _ => rfl, fun _ => rfl, fun e => absurd e (by decide)⟩
theorem es_ne5 {k : Int32} (h : es_io k = true) : k ≠ 5 := by
  intro e; rw [e] at h; exact absurd h es_io5
theorem es_gW_rn : ∀ (R : es_L), es_gW R → ∃ w L, es_rn R es_go = some (false, w :: L) ∧ (w :: L).length = es_no R ∧ es_Aft (es_kf R 0) w
  | [(k, n)], h => by
    have e : k = 5 := h
    subst e
    refine ⟨(0, 1, none), [], ?_, ?_, ?_⟩
    · show es_st (5, n) (false, []) = _
      rw [es_st5]; rfl
    · rw [es_no5 rfl]; rfl
    · exact es_Aft0 0
  | (k, n) :: y :: R, Or.inl h => by
    obtain ⟨w, L, a, b, _⟩ := es_gW_rn (y :: R) h.2
    have e : k = 5 := h.1
    subst e
    refine ⟨(0, 1, none), w :: L, ?_, ?_, ?_⟩
    · rw [es_rn_c, a]
      show es_st (5, n) (false, w :: L) = _
      rw [es_st5]; rfl
    · rw [es_no5 rfl, ← b]; rfl
    · exact es_Aft0 0
  | (k, n) :: (k2, v) :: R, Or.inr h => by
    obtain ⟨ho, h0, hR, _⟩ := h
    have e : k2 = 0 := h0
    subst e
    obtain ⟨w, L, a, b, _⟩ := es_gW_rn R hR
    have ho' : es_io k = true := ho
    have e : es_st (k, n) (true, es_tk w v :: L) = some (false, es_os k (es_tk w v) :: L) := by rw [es_stP ho']; rfl
    refine ⟨es_os k (es_tk w v), L, ?_, ?_, ?_⟩
    · rw [es_rn_c, es_rn_c, a]
      show (es_st (0, v) (false, w :: L)).bind (es_st (k, n)) = _
      rw [es_st0]
      exact e
    · rw [es_nok (es_ne5 ho'), es_no0, ← b]; rfl
    · obtain ⟨w', T', e', hA⟩ := es_bef (Or.inr ho') e
      cases e'
      exact hA
theorem es_gH_rn {v : Int32} {R : es_L} (h : es_gW R) : ∃ w L, es_rn ((0, v) :: R) es_go = some (true, es_tk w v :: L) ∧ es_rn R es_go = some (false, w :: L) ∧ (w :: L).length = es_no R ∧ es_Aft (es_kf R 0) w := by
  obtain ⟨w, L, a, b, c⟩ := es_gW_rn R h
  refine ⟨w, L, ?_, a, b, c⟩
  rw [es_rn_c, a]
  show es_st (0, v) (false, w :: L) = _
  rw [es_st0]; rfl
theorem es_st_ex {x : Int32 × Int32} {b b' : Bool} {L L' : List es_F} (E : List es_F) (h : es_st x (b, L) = some (b', L')) : es_st x (b, L ++ E) = some (b', L' ++ E) := by
  obtain ⟨k, n⟩ := x
  unfold es_st at h ⊢
  dsimp only at h ⊢
  by_cases h0 : k = 0
  · rw [if_pos h0] at h ⊢
    cases b with
    | true => cases h
    | false =>
      cases L with
      | nil => cases h
      | cons w T => cases h; rfl
  · rw [if_neg h0] at h ⊢
    by_cases h5 : k = 5
    · rw [if_pos h5] at h ⊢
      cases b with
      | true => cases h
      | false => cases h; rfl
    · rw [if_neg h5] at h ⊢
      by_cases h6 : k = 6
      · rw [if_pos h6] at h ⊢
        cases b with
        | false => cases h
        | true =>
          cases L with
          | nil => cases h
          | cons w T =>
            cases T with
            | nil => cases h
            | cons g T => cases h; rfl
      · rw [if_neg h6] at h ⊢
        cases b with
        | false => cases h
        | true =>
          cases L with
          | nil => cases h
          | cons w T => cases h; rfl
theorem es_rn_ex (E : List es_F) : ∀ (R : es_L) {b b' : Bool} {L L' : List es_F}, es_rn R (some (b, L)) = some (b', L') → es_rn R (some (b, L ++ E)) = some (b', L' ++ E) := by
  intro R
  induction R with
  | nil => intro b b' L L' h; cases h; rfl
  | cons x R ih =>
    intro b b' L L' h
    rw [es_rn_c] at h ⊢
    cases hr : es_rn R (some (b, L)) with
    | none => rw [hr] at h; cases h
    | some t =>
      obtain ⟨b1, L1⟩ := t
      rw [hr] at h
      rw [ih hr]
      exact es_st_ex E h
/-- the reference's answer on a part: its value, if it is an expression -/
def es_an : Option es_S → Option Int32
  | some (true, [w]) => some (es_vl w)
  | _ => none
def es_ac (T : es_L) : Option Int32 := es_an (es_rn (T ++ [(5, 0)]) es_go)
theorem es_ac_e {T R : es_L} (he : ∀ s, es_rn R s = es_rn (T ++ [(5, 0)]) s) : es_ac T = es_an (es_rn R es_go) := by
  unfold es_ac; rw [he]
theorem es_fin {T R : es_L} (hl : R.length ≤ 72) (hg : es_gW R ∨ es_gH R) (he : ∀ s, es_rn R s = es_rn (T ++ [(5, 0)]) s) :
    (es_pu R 6 0 = none → es_ac T = none) ∧ (∀ R', es_pu R 6 0 = some R' → (∃ v, R' = [(0, v)] ∧ es_ac T = some v) ∨ ((es_bo R').1 = 5 ∧ es_ac T = none)) := by
  rw [es_ac_e he]
  constructor
  · intro h
    obtain ⟨h7, h1⟩ := es_pu_n h
    rcases hg with hg | hg
    · obtain ⟨w, L, a, _⟩ := es_gW_rn R hg
      rw [a]; rfl
    · match R, hg, h1 with
      | x :: R, hg, h1 =>
        have h1' : es_en x.1 = es_be 6 := h1
        rw [hg.1] at h1'
        exact absurd h1' (by decide)
  · intro R' h
    have hg' := es_pu_g (Or.inr (Or.inr (Or.inl rfl))) hl hg h
    have hs := es_pu_so h
    rcases hg with hg | hg
    · obtain ⟨h1, _⟩ := es_pu_i h
      have t := es_en_o (es_gW_top hg)
      exact absurd ⟨t.2, by rw [t.1]; decide⟩ h1
    · match R, hg, hs with
      | (k0, v0) :: R, hg, hs =>
        obtain ⟨z, hW⟩ := hg
        have z' : k0 = 0 := z
        subst z'
        obtain ⟨w, L, a, _⟩ := es_gH_rn (v := v0) hW
        rcases hg' with hg' | ⟨_, v, e⟩
        · refine Or.inr ⟨(es_gA_bo hg').1, ?_⟩
          rw [a]
          cases L with
          | cons g L => rfl
          | nil =>
            have s0 := hs es_go
            rw [es_rn_c, a] at s0
            have s1 : es_rn R' es_go = none := by rw [s0]; show es_st (6, 0) (true, [es_tk w v0]) = none; rw [es_st6]; rfl
            rcases hg' with hg' | hg'
            · obtain ⟨w2, L2, a2, _⟩ := es_gW_rn R' hg'
              rw [a2] at s1; cases s1
            · match R', hg', s1 with
              | (k1, v1) :: R', hg', s1 =>
                obtain ⟨z1, hW1⟩ := hg'
                have z1' : k1 = 0 := z1
                subst z1'
                obtain ⟨w2, L2, a2, _⟩ := es_gH_rn (v := v1) hW1
                rw [a2] at s1; cases s1
        · refine Or.inl ⟨v, e, ?_⟩
          subst e
          rw [a]
          cases L with
          | cons g L =>
            have s0 := hs es_go
            rw [es_rn_c (6, 0), a] at s0
            have s1 : es_rn [(0, v)] es_go = none := by show es_st (0, v) (false, []) = none; rw [es_st0]; rfl
            rw [s1] at s0
            have s2 : (some (true, es_tk w v0 :: g :: L) : Option es_S).bind (es_st (6, 0)) = some (true, es_tk g (es_vl (es_tk w v0)) :: L) := by
              show es_st (6, 0) (true, es_tk w v0 :: g :: L) = _; rw [es_st6]; rfl
            rw [s2] at s0; cases s0
          | nil =>
            have s0 := hs (some (false, [(0, 1, none)]))
            have a2 := es_rn_ex [(0, 1, none)] ((0, v0) :: R) (b := false) (L := []) a
            have a3 : es_rn ((0, v0) :: R) (some (false, [(0, 1, none)])) = some (true, [es_tk w v0, (0, 1, none)]) := a2
            rw [es_rn_c (6, 0), a3] at s0
            have s1 : es_rn [(0, v)] (some (false, [(0, 1, none)])) = some (true, [(0, 1, some v)]) := by show es_st (0, v) (false, [(0, 1, none)]) = _; rw [es_st0]; rfl
            have s2 : (some (true, [es_tk w v0, (0, 1, none)]) : Option es_S).bind (es_st (6, 0)) = some (true, [(0, 1, some (es_vl (es_tk w v0)))]) := by
              show es_st (6, 0) (true, [es_tk w v0, (0, 1, none)]) = _; rw [es_st6]; rfl
            rw [s1, s2] at s0
            injection s0 with s0
            injection s0 with _ s0
            injection s0 with s0 _
            injection s0 with _ s0
            injection s0 with _ s0
            injection s0 with s0
            show some (es_vl (es_tk w v0)) = some v
            rw [s0]
end
section
/-! what X's row stands for while a part is read: alive (its own bracket not closed), or dead -/
def es_Al (T R : es_L) : Prop := (es_gW R ∨ es_gH R) ∧ ∀ s, es_rn R s = es_rn (T ++ [(5, 0)]) s
def es_De (T R : es_L) : Prop := (es_bo R).1 = 0 ∧ es_rn (T ++ [(5, 0)]) es_go = none
def es_Go (T R : es_L) : Prop := es_Al T R ∨ es_De T R
theorem es_Al_0 : es_Al [] [(5, 0)] := ⟨Or.inl rfl, fun _ => rfl⟩
theorem es_Go_s {T R R' : es_L} {k n : Int32} (hk : es_ok k) (hl : R.length ≤ 72) (h : es_Go T R) (hp : es_pu R k n = some R') : es_Go ((k, n) :: T) R' := by
  rcases h with ⟨hg, he⟩ | ⟨hb, hd⟩
  · have e : ∀ s, es_rn R' s = es_rn (((k, n) :: T) ++ [(5, 0)]) s := by
      intro s
      rw [es_pu_so hp s, List.cons_append, es_rn_c, es_rn_c, he]
    rcases es_pu_g hk hl hg hp with hg' | ⟨h6, v, ev⟩
    · exact Or.inl ⟨hg', e⟩
    · refine Or.inr ⟨by rw [ev]; rfl, ?_⟩
      rw [← e es_go, ev]
      show es_st (0, v) (false, []) = none
      rw [es_st0]; rfl
  · refine Or.inr ⟨(es_pu_d hb hp).1, ?_⟩
    rw [List.cons_append, es_rn_c, hd]; rfl
theorem es_Go_n {T R : es_L} {k n : Int32} (h : es_Go T R) (hp : es_pu R k n = none) : es_rn (((k, n) :: T) ++ [(5, 0)]) es_go = none := by
  rcases h with ⟨hg, he⟩ | ⟨hb, hd⟩
  · rw [List.cons_append, es_rn_c, ← he, ← es_rn_c]
    exact es_pu_no hp es_go
  · rw [List.cons_append, es_rn_c, hd]; rfl
theorem es_Go_e {T T' R : es_L} (h : es_Go T R) (e : ∀ s, es_rn T s = es_rn T' s) : es_Go T' R := by
  rcases h with ⟨hg, he⟩ | ⟨hb, hd⟩
  · exact Or.inl ⟨hg, fun s => by rw [he, es_rn_ap, es_rn_ap, e]⟩
  · exact Or.inr ⟨hb, by rw [es_rn_ap, ← e, ← es_rn_ap]; exact hd⟩
theorem es_dead {T : es_L} (A : es_L) (h : es_rn (T ++ [(5, 0)]) es_go = none) : es_rn ((A ++ T) ++ [(5, 0)]) es_go = none := by
  rw [List.append_assoc, es_rn_ap, h, es_rn_no]
theorem es_dead_ac {T : es_L} (h : es_rn (T ++ [(5, 0)]) es_go = none) : es_ac T = none := by
  unfold es_ac; rw [h]; rfl
theorem es_Go_f {T R : es_L} (hl : R.length ≤ 72) (h : es_Go T R) :
    (es_pu R 6 0 = none → es_ac T = none) ∧ (∀ R', es_pu R 6 0 = some R' → (∃ v, R' = [(0, v)] ∧ es_ac T = some v) ∨ (((es_bo R').1 ≠ 0 ∨ R'.length ≠ 1) ∧ es_ac T = none)) := by
  rcases h with ⟨hg, he⟩ | ⟨hb, hd⟩
  · obtain ⟨a, b⟩ := es_fin hl hg he
    refine ⟨a, fun R' h' => ?_⟩
    rcases b R' h' with c | ⟨c, d⟩
    · exact Or.inl c
    · exact Or.inr ⟨Or.inl (by rw [c]; decide), d⟩
  · refine ⟨fun _ => es_dead_ac hd, fun R' h' => Or.inr ⟨Or.inr ?_, es_dead_ac hd⟩⟩
    have := (es_pu_d hb h').2
    omega
/-! the whole value of a row that is not closed yet -/
def es_wv : es_L → Int32 → Int32
  | x :: y :: T, v => es_wv T (es_ap x.1 y.2 v)
  | _, v => v
theorem es_co_lt {f a o b : Int32} (h : es_bd f < es_bd o) : es_co f a o b = es_ap o a b := by
  unfold es_co
  refine if_neg ?_
  intro e
  rw [e.2] at h
  exact absurd h (by rw [Int32.lt_iff_toInt_lt]; omega)
theorem es_wv_ok : ∀ (X : es_L), es_gW X → es_no X = 1 → ∀ v, ∃ w, es_rn ((0, v) :: X) es_go = some (true, [w]) ∧ es_vl w = es_wv X v
  | [(k, n)], h, _, v => by
    have e : k = 5 := h
    subst e
    refine ⟨(0, 1, some v), ?_, es_zone v⟩
    show (es_st (5, n) (false, [])).bind (es_st (0, v)) = _
    rw [es_st5]
    show es_st (0, v) (false, [(0, 1, none)]) = _
    rw [es_st0]; rfl
  | (k, n) :: y :: R, Or.inl h, hn, v => by
    obtain ⟨w, L, _, b, _⟩ := es_gW_rn (y :: R) h.2
    rw [es_no5 h.1, ← b] at hn
    simp only [List.length_cons] at hn
    omega
  | (k, n) :: (k2, a) :: R, Or.inr h, hn, v => by
    obtain ⟨ho, h0, hR, hb⟩ := h
    have e : k2 = 0 := h0
    subst e
    have ho' : es_io k = true := ho
    have hb' : es_bd (es_kf R 0) < es_bd k := hb
    rw [es_nok (es_ne5 ho'), es_no0] at hn
    obtain ⟨w', a', b'⟩ := es_wv_ok R hR hn (es_ap k a v)
    obtain ⟨w, L, a2, a3, a4, a5⟩ := es_gH_rn (v := es_ap k a v) hR
    rw [a2] at a'
    injection a' with a'
    injection a' with _ a'
    injection a' with a' aL
    subst aL
    refine ⟨es_tk (es_os k (es_tk w a)) v, ?_, ?_⟩
    · show (((es_rn R es_go).bind (es_st (0, a))).bind (es_st (k, n))).bind (es_st (0, v)) = _
      rw [a3]
      show ((es_st (0, a) (false, [w])).bind (es_st (k, n))).bind (es_st (0, v)) = _
      rw [es_st0]
      show (es_st (k, n) (true, [es_tk w a])).bind (es_st (0, v)) = _
      rw [es_stP ho']
      show es_st (0, v) (false, [es_os k (es_tk w a)]) = _
      rw [es_st0]; rfl
    · have q := (es_alk (es_kf R 0) a k v w (es_gW_top hR) ho' (by rw [Int32.lt_iff_toInt_lt] at hb' ⊢; omega) a5).1
      rw [es_co_lt hb', a'] at q
      rw [q, b']; rfl
theorem es_whole {T R : es_L} (h : es_Al T R) : (es_gH R → es_no R = 1 → ∃ v X, R = (0, v) :: X ∧ es_ac T = some (es_wv X v)) ∧ (¬ (es_gH R ∧ es_no R = 1) → es_ac T = none) := by
  obtain ⟨hg, he⟩ := h
  rw [es_ac_e he]
  constructor
  · intro hH hn
    match R, hH, hn with
    | (k, v) :: X, hH, hn =>
      have e : k = 0 := hH.1
      subst e
      rw [es_no0] at hn
      obtain ⟨w, a, b⟩ := es_wv_ok X hH.2 hn v
      refine ⟨v, X, rfl, ?_⟩
      rw [a, ← b]; rfl
  · intro hn
    rcases hg with hg | hg
    · obtain ⟨w, L, a, _⟩ := es_gW_rn R hg
      rw [a]; rfl
    · match R, hg, hn with
      | (k, v) :: X, hg, hn =>
        have e : k = 0 := hg.1
        subst e
        obtain ⟨w, L, a, _, b, _⟩ := es_gH_rn (v := v) hg.2
        rw [a]
        cases L with
        | cons g L => rfl
        | nil =>
          refine absurd ⟨hg, ?_⟩ hn
          rw [es_no0, ← b]; rfl
theorem es_n6 : ∀ (R : es_L), es_gW R → ∀ x, x ∈ R → x.1 ≠ 6
  | [y], h, x, hx => by
    rcases List.mem_cons.mp hx with e | e
    · have h' : y.1 = 5 := h
      rw [e, h']; decide
    · cases e
  | y :: z :: R, Or.inl h, x, hx => by
    rcases List.mem_cons.mp hx with e | e
    · rw [e, h.1]; decide
    · exact es_n6 (z :: R) h.2 x e
  | y :: z :: R, Or.inr h, x, hx => by
    rcases List.mem_cons.mp hx with e | e
    · rw [e]
      rcases es_io4 h.1 with q | q | q | q <;> rw [q] <;> decide
    · rcases List.mem_cons.mp e with e | e
      · rw [e, h.2.1]; decide
      · exact es_n6 R h.2.2.1 x e
theorem es_n6A {R : es_L} (h : es_gW R ∨ es_gH R) : ∀ x, x ∈ R → x.1 ≠ 6 := by
  rcases h with h | h
  · exact es_n6 R h
  · match R, h with
    | y :: R, h =>
      intro x hx
      rcases List.mem_cons.mp hx with e | e
      · rw [e, h.1]; decide
      · exact es_n6 R h.2 x e
/-! arrays as lists -/
def es_ro (a b : Nat → Int32) : Nat → es_L
  | 0 => []
  | n + 1 => (a n, b n) :: es_ro a b n
theorem es_ro_ln (a b : Nat → Int32) (n : Nat) : (es_ro a b n).length = n := by
  induction n with
  | zero => rfl
  | succ n ih => show (es_ro a b n).length + 1 = n + 1; rw [ih]
theorem es_ro_cg {a b a' b' : Nat → Int32} {n : Nat} (h : ∀ j, j < n → a j = a' j ∧ b j = b' j) : es_ro a b n = es_ro a' b' n := by
  induction n with
  | zero => rfl
  | succ n ih =>
    show (a n, b n) :: es_ro a b n = (a' n, b' n) :: es_ro a' b' n
    rw [(h n (by omega)).1, (h n (by omega)).2, ih (fun j hj => h j (by omega))]
theorem es_ro_kf {a b : Nat → Int32} : ∀ (i n : Nat), es_kf (es_ro a b n) i = if n ≤ i then 7 else a (n - 1 - i) := by
  intro i
  induction i with
  | zero =>
    intro n
    cases n with
    | zero => rfl
    | succ n => rw [if_neg (by omega)]; rfl
  | succ i ih =>
    intro n
    cases n with
    | zero => rw [if_pos (by omega)]; rfl
    | succ n =>
      show es_kf (es_ro a b n) i = _
      rw [ih n]
      by_cases h : n ≤ i
      · rw [if_pos h, if_pos (by omega)]
      · rw [if_neg h, if_neg (by omega), show n + 1 - 1 - (i + 1) = n - 1 - i from by omega]
theorem es_ro_bo {a b : Nat → Int32} (n : Nat) : es_bo (es_ro a b (n + 1)) = (a 0, b 0) := by
  induction n with
  | zero => rfl
  | succ n ih => exact ih
theorem es_ro_no {a b : Nat → Int32} (h : a 0 = 5) (n : Nat) : 1 ≤ es_no (es_ro a b (n + 1)) ∧ (es_no (es_ro a b (n + 1)) = 1 ↔ ∀ k, 1 ≤ k → k < n + 1 → a k ≠ 5) := by
  induction n with
  | zero =>
    have e : es_no (es_ro a b 1) = 1 := by show es_no [(a 0, b 0)] = 1; rw [es_no5 h]; rfl
    rw [e]
    exact ⟨Nat.le_refl _, fun _ k h1 h2 => absurd h1 (by omega), fun _ => rfl⟩
  | succ n ih =>
    have e : es_ro a b (n + 1 + 1) = (a (n + 1), b (n + 1)) :: es_ro a b (n + 1) := rfl
    rw [e]
    by_cases h5 : a (n + 1) = 5
    · rw [es_no5 h5]
      refine ⟨by omega, fun q => ?_, fun q => ?_⟩
      · have := ih.1; omega
      · exact absurd h5 (q (n + 1) (by omega) (by omega))
    · rw [es_non h5]
      refine ⟨ih.1, fun q k h1 h2 => ?_, fun q => ih.2.mpr fun k h1 h2 => q k h1 (by omega)⟩
      by_cases hk : k = n + 1
      · rw [hk]; exact h5
      · exact ih.2.mp q k h1 (by omega)
theorem es_ro_m {a b : Nat → Int32} : ∀ (n k : Nat), k < n → (a k, b k) ∈ es_ro a b n := by
  intro n
  induction n with
  | zero => intro k hk; omega
  | succ n ih =>
    intro k hk
    by_cases h : k = n
    · rw [h]; exact List.mem_cons.mpr (Or.inl rfl)
    · exact List.mem_cons.mpr (Or.inr (ih k (by omega)))
/-- the items of two arrays from a place on, the last first -/
def es_tn (a b : Nat → Int32) (i n : Nat) : es_L := es_ro (fun j => a (i + j)) (fun j => b (i + j)) n
theorem es_tn_s {a b : Nat → Int32} (i n : Nat) : es_tn a b i (n + 1) = (a (i + n), b (i + n)) :: es_tn a b i n := rfl
theorem es_tn_ap {a b : Nat → Int32} (i n m : Nat) : es_tn a b i (n + m) = es_tn a b (i + n) m ++ es_tn a b i n := by
  induction m with
  | zero => rfl
  | succ m ih =>
    rw [← Nat.add_assoc, es_tn_s, es_tn_s, ih, Nat.add_assoc i n m]
    rfl
theorem es_tn_cg {a b a' b' : Nat → Int32} {i n : Nat} (h : ∀ j, i ≤ j → j < i + n → a j = a' j ∧ b j = b' j) : es_tn a b i n = es_tn a' b' i n := es_ro_cg fun j hj => h (i + j) (by omega) (by omega)
end
section
/-! X: kindFromEnd, canSettle, settle, append, close, push -/
section
variable {sz kn ct wr : Int32} {kd nm ic ik im br rk rn sk sn : Nat → Int32}
theorem es_io_lo {k : Int32} (h : k < 1) : ¬ es_io k = true := by
  unfold es_io; rw [if_pos h]; decide
theorem es_io_hi {k : Int32} (h1 : ¬ k < 1) (h : 4 < k) : ¬ es_io k = true := by
  unfold es_io; rw [if_neg h1, if_pos h]; decide
theorem es_io_in {k : Int32} (h1 : ¬ k < 1) (h : ¬ 4 < k) : es_io k = true := by
  unfold es_io; rw [if_neg h1, if_neg h]
theorem es_bd_n {k : Int32} (h : ¬ es_io k = true) : es_bd k = 0 := by
  have h1 : k ≠ 1 := fun e => h (by rw [e]; decide)
  have h2 : k ≠ 2 := fun e => h (by rw [e]; decide)
  have h3 : k ≠ 3 := fun e => h (by rw [e]; decide)
  have h4 : k ≠ 4 := fun e => h (by rw [e]; decide)
  unfold es_bd; rw [if_neg h1, if_neg h2, if_neg h3, if_neg h4]
theorem es_x_bd {post : Int32 → Prop} (k : Int32) (h : post (es_bd k)) : wpX_binding post k := by
  unfold wpX_binding
  refine br_c (fun a => ?_) (fun a => br_c (fun b => ?_) (fun b => br_c (fun c => ?_) (fun c => br_c (fun d => ?_) (fun d => br_c (fun e => ?_) (fun e => br_c (fun f => ?_) (fun f => trivial))))))
  · rw [es_bd_n (es_io_lo a)] at h; exact h
  · rw [es_bd_n (es_io_hi a b)] at h; exact h
  · subst c; exact h
  · subst d; exact h
  · subst e; exact h
  · subst f; exact h
theorem es_x_io {post : Int32 → Prop} (k : Int32) (h : post (if es_io k = true then 1 else 0)) : wpX_isOperator post k := by
  unfold wpX_isOperator
  refine br_c (fun a => ?_) (fun a => br_c (fun b => ?_) (fun b => ?_))
  · rw [if_neg (es_io_lo a)] at h; exact h
  · rw [if_neg (es_io_hi a b)] at h; exact h
  · rw [if_pos (es_io_in a b)] at h; exact h
theorem es_x_mx {post : Int32 → Prop} {a b : Int32} (h : post (es_mx a b)) : (a ≤ b → post b) ∧ (¬ a ≤ b → post a) := by
  unfold es_mx at h
  exact ⟨fun c => by rw [if_pos c] at h; exact h, fun c => by rw [if_neg c] at h; exact h⟩
theorem es_ap_m {o a b : Int32} (h1 : o ≠ 1) (h2 : o ≠ 2) (h3 : o ≠ 3) : es_ap o a b = es_mx a b := by
  unfold es_ap; rw [if_neg h1, if_neg h2, if_neg h3]
theorem es_x_ap {post : Int32 → Prop} (o a b : Int32) (h : post (es_ap o a b)) : wpX_applied post o a b := by
  unfold wpX_applied
  refine br_c (fun p => ?_) (fun p => br_c (fun q => ?_) (fun q => br_c (fun c => ?_) (fun c => br_c (fun d => ?_) (fun d => br_c (fun e => ?_) (fun e => trivial)))))
  · rw [es_ap_m (fun e => by subst e; exact absurd p (by decide)) (fun e => by subst e; exact absurd p (by decide)) (fun e => by subst e; exact absurd p (by decide))] at h
    exact es_x_mx h
  · rw [es_ap_m (fun e => by subst e; exact absurd q (by decide)) (fun e => by subst e; exact absurd q (by decide)) (fun e => by subst e; exact absurd q (by decide))] at h
    exact es_x_mx h
  · subst c; exact h
  · subst d; exact h
  · subst e; exact h
theorem es_x_ch {post : Int32 → Prop} (f a o b : Int32) (h : post (es_ch f a o b)) : wpX_chained post f a o b := by
  unfold wpX_chained
  unfold es_ch at h
  refine br_c (fun p => ?_) (fun p => ?_)
  · rw [if_pos p] at h
    refine br_c (fun q => ?_) (fun q => ?_)
    · rw [if_pos q] at h; exact h
    · rw [if_neg q] at h; exact h
  · rw [if_neg p] at h
    exact es_x_ap o a b h
theorem es_x_kf {post : Int32 → Prop} (c b : Nat) (hc : c ≤ 72) (hb : b ≤ 72) (h : post (es_kf (es_ro rk rn c) b)) : wpX_kindFromEnd post (sz, kn, nI c, wr, kd, nm, ic, ik, im, br, rk, rn, sk, sn) (nI b) := by
  unfold wpX_kindFromEnd
  rw [es_ro_kf] at h
  refine pk_le c b (fun l => ?_) (fun l => ?_)
  · rw [if_pos l] at h; exact h
  · rw [if_neg (by omega)] at h
    have e1 : nI c - 1 = nI (c - 1) := pk_sub (a := c) (b := 1) (by omega)
    have e : nI c - 1 - nI b = nI (c - 1 - b) := by rw [e1]; exact pk_sub (by omega)
    rw [e]
    exact ⟨vp_in_nI (by omega) (by decide), by rw [nI_clamp (by omega)]; exact h⟩
theorem es_x_39 {post : Int32 → Prop} {c o f : Int32} (h : post 0) : wX_canSettle_39 post c o f sz kn ct wr kd nm ic ik im br rk rn sk sn := by
  unfold wX_canSettle_39 wX_canSettle_40 wX_canSettle_54 wX_canSettle_59
  exact ⟨fun _ => br_t rfl h, fun _ => es_x_io f (br_c (fun _ => br_t rfl h) (fun _ => br_t rfl h))⟩
theorem es_x_54 {post : Int32 → Prop} {c o f : Int32} (h0 : es_bd o < c ∨ es_bd o < es_bd f → post 0) (h1 : ¬ es_bd o < c → ¬ es_bd o < es_bd f → post 1) : wX_canSettle_54 post c o f 1 sz kn ct wr kd nm ic ik im br rk rn sk sn := by
  unfold wX_canSettle_54 wX_canSettle_59
  refine br_f (by decide) (br_f (by decide) (es_x_bd o (br_c (fun a => h0 (Or.inl a)) (fun a => es_x_bd f (es_x_bd o (br_c (fun b => h0 (Or.inr b)) (fun b => h1 a b)))))))
theorem es_x_cs {post : Int32 → Prop} (cc : Int32) (c : Nat) (hc : c ≤ 72) (h : post (if es_cs cc (es_kf (es_ro rk rn c) 0) (es_kf (es_ro rk rn c) 1) (es_kf (es_ro rk rn c) 2) (es_kf (es_ro rk rn c) 3) = true then 1 else 0)) : wpX_canSettle post (sz, kn, nI c, wr, kd, nm, ic, ik, im, br, rk, rn, sk, sn) cc := by
  unfold wpX_canSettle
  refine es_x_kf c 1 hc (by omega) (es_x_kf c 3 hc (by omega) (es_x_kf c 0 hc (by omega) ?_))
  refine br_c (fun a => ?_) (fun a => ?_)
  · refine es_x_io _ (br_c (fun b => ?_) (fun b => ?_))
    · rw [if_neg (fun e => by rw [if_pos (es_cs_i e).2.2.1] at b; exact absurd b (by decide))] at h
      exact es_x_39 h
    · have ho : es_io (es_kf (es_ro rk rn c) 1) = true := by
        by_cases e : es_io (es_kf (es_ro rk rn c) 1) = true
        · exact e
        · rw [if_neg e] at b; exact absurd rfl b
      refine es_x_kf c 2 hc (by omega) (br_c (fun d => ?_) (fun d => ?_))
      · unfold wX_canSettle_40
        refine br_c (fun e => ?_) (fun e => ?_)
        · refine es_x_54 (fun q => ?_) (fun q1 q2 => ?_)
          · rw [if_neg (fun z => by rcases q with q | q; exact (es_cs_i z).2.2.2.2.1 q; exact (es_cs_i z).2.2.2.2.2 q)] at h
            exact h
          · rw [if_pos (es_cs_p a d ho (Or.inl e) q1 q2)] at h
            exact h
        · refine es_x_io _ (br_c (fun g => ?_) (fun g => ?_))
          · rw [if_neg (fun z => by
              rcases (es_cs_i z).2.2.2.1 with y | y
              · exact e y
              · rw [if_pos y] at g; exact absurd g (by decide))] at h
            unfold wX_canSettle_59
            exact br_f (by decide) (br_t rfl h)
          · have hf : es_io (es_kf (es_ro rk rn c) 3) = true := by
              by_cases e : es_io (es_kf (es_ro rk rn c) 3) = true
              · exact e
              · rw [if_neg e] at g; exact absurd rfl g
            refine es_x_54 (fun q => ?_) (fun q1 q2 => ?_)
            · rw [if_neg (fun z => by rcases q with q | q; exact (es_cs_i z).2.2.2.2.1 q; exact (es_cs_i z).2.2.2.2.2 q)] at h
              exact h
            · rw [if_pos (es_cs_p a d ho (Or.inr hf) q1 q2)] at h
              exact h
      · rw [if_neg (fun z => d (es_cs_i z).2.1)] at h
        exact es_x_39 h
  · rw [if_neg (fun z => a (es_cs_i z).1)] at h
    exact es_x_39 h
theorem es_x_set0 {post : SX → Prop} {cc x3 : Int32} {n : Nat} (h : post (sz, kn, ct, wr, kd, nm, ic, ik, im, br, rk, rn, sk, sn)) : wX_settle_4 post cc sz kn wr (n + 1) 0 x3 ct kd nm ic ik im br rk rn sk sn := by
  unfold wX_settle_4
  exact br_c (fun _ => h) (fun _ => br_t rfl h)
theorem es_cs_4 {cc : Int32} {c : Nat} (h : es_cs cc (es_kf (es_ro rk rn c) 0) (es_kf (es_ro rk rn c) 1) (es_kf (es_ro rk rn c) 2) (es_kf (es_ro rk rn c) 3) = true) : 4 ≤ c := by
  have a := (es_cs_i h).2.2.2.1
  rw [es_ro_kf 3 c] at a
  by_cases e : c ≤ 3
  · rw [if_pos e] at a
    exact absurd a (by decide)
  · omega
theorem es_s1_4 {cc : Int32} {c : Nat} (h : c < 4) : es_s1 cc (es_ro rk rn c) = none := by
  cases e : es_s1 cc (es_ro rk rn c) with
  | none => rfl
  | some R' =>
    have a := es_s1_ln e
    rw [es_ro_ln] at a
    omega
theorem es_x_142 {post : SX → Prop} {J4 : Int32 → Int32 → Int32 → (Nat → Int32) → (Nat → Int32) → (Nat → Int32) → (Nat → Int32) → (Nat → Int32) → (Nat → Int32) → (Nat → Int32) → (Nat → Int32) → (Nat → Int32) → (Nat → Int32) → Prop} {x1 x2 v : Int32} {i d : Nat} (hd : d + 4 ≤ 72)
    (h : J4 x2 (nI (i + 1)) (nI (d + 2)) kd nm ic ik im br rk (upd rn (d + 1) v) sk sn) : wX_settle_142 post J4 x1 x2 (nI i) v (nI (d + 4) - 3) sz kn (nI (d + 4)) wr kd nm ic ik im br rk rn sk sn := by
  unfold wX_settle_142
  have e3 : nI (d + 4) - 3 = nI (d + 1) := pk_sub (a := d + 4) (b := 3) (by omega)
  have e2 : nI (d + 4) - 2 = nI (d + 2) := pk_sub (a := d + 4) (b := 2) (by omega)
  rw [e3, e2, nI_clamp (by omega)]
  exact ⟨vp_in_nI (by omega) (by decide), nm_e (nm_e (nm_r (nI_1 i) h))⟩
theorem es_x_set {post : SX → Prop} {cc : Int32} : ∀ (m fuel i c : Nat) (rk rn : Nat → Int32), i + m = 72 → m + 1 < fuel → c ≤ 72 →
    (∀ (c' : Nat) (rk' rn' : Nat → Int32), es_ro rk' rn' c' = es_se cc m (es_ro rk rn c) → post (sz, kn, nI c', wr, kd, nm, ic, ik, im, br, rk', rn', sk, sn)) →
    wX_settle_4 post cc sz kn wr fuel 1 (nI i) (nI c) kd nm ic ik im br rk rn sk sn := by
  intro m
  induction m with
  | zero =>
    intro fuel i c rk rn hi hf hc h
    obtain ⟨n, rfl⟩ : ∃ n, fuel = n + 1 := ⟨fuel - 1, by omega⟩
    unfold wX_settle_4
    exact br_t (nI_le (a := 72) (by omega) (by omega)) (h c rk rn rfl)
  | succ m ih =>
    intro fuel i c rk rn hi hf hc h
    obtain ⟨n, rfl⟩ : ∃ n, fuel = n + 1 + 1 := ⟨fuel - 2, by omega⟩
    unfold wX_settle_4
    refine br_f (nI_ge (b := 72) (by omega) (by decide)) (br_f (by decide) (es_x_cs cc c hc ?_))
    by_cases hs : es_cs cc (es_kf (es_ro rk rn c) 0) (es_kf (es_ro rk rn c) 1) (es_kf (es_ro rk rn c) 2) (es_kf (es_ro rk rn c) 3) = true
    · rw [if_pos hs]
      have h4 := es_cs_4 hs
      obtain ⟨d, rfl⟩ : ∃ d, c = d + 4 := ⟨c - 4, by omega⟩
      have hs' : es_cs cc (rk (d + 3)) (rk (d + 2)) (rk (d + 1)) (rk d) = true := hs
      have e1 : es_s1 cc (es_ro rk rn (d + 4)) = some ((rk (d + 1), es_co (rk d) (rn (d + 1)) (rk (d + 2)) (rn (d + 3))) :: (rk d, rn d) :: es_ro rk rn d) := if_pos hs'
      rw [es_se_s e1] at h
      have q1 : nI (d + 4) - 1 = nI (d + 3) := pk_sub (a := d + 4) (b := 1) (by omega)
      have q2 : nI (d + 4) - 2 = nI (d + 2) := pk_sub (a := d + 4) (b := 2) (by omega)
      have q3 : nI (d + 4) - 3 = nI (d + 1) := pk_sub (a := d + 4) (b := 3) (by omega)
      have q4 : nI (d + 4) - 4 = nI d := pk_sub (a := d + 4) (b := 4) (by omega)
      refine br_f (by decide) ?_
      have G : ∀ v, v = es_co (rk d) (rn (d + 1)) (rk (d + 2)) (rn (d + 3)) → wX_settle_4 post cc sz kn wr (n + 1) 1 (nI (i + 1)) (nI (d + 2)) kd nm ic ik im br rk (upd rn (d + 1) v) sk sn := by
        intro v ev
        refine ih (n + 1) (i + 1) (d + 2) rk (upd rn (d + 1) v) (by omega) (by omega) (by omega) ?_
        have e2 : es_ro rk (upd rn (d + 1) v) (d + 2) = (rk (d + 1), es_co (rk d) (rn (d + 1)) (rk (d + 2)) (rn (d + 3))) :: (rk d, rn d) :: es_ro rk rn d := by
          show (rk (d + 1), upd rn (d + 1) v (d + 1)) :: (rk d, upd rn (d + 1) v d) :: es_ro rk (upd rn (d + 1) v) d = _
          rw [pk_us, pk_un (by omega), ev, es_ro_cg (a := rk) (b := upd rn (d + 1) _) (a' := rk) (b' := rn) (n := d) (fun j hj => ⟨rfl, pk_un (by omega)⟩)]
        rw [e2]
        exact h
      refine ⟨by rw [q2]; exact vp_in_nI (by omega) (by decide), nm_r (e' := rk (d + 2)) (by rw [q2, nI_clamp (by omega)]) ?_⟩
      refine ⟨by rw [q4]; exact vp_in_nI (by omega) (by decide), nm_r (e' := rk d) (by rw [q4, nI_clamp (by omega)]) ?_⟩
      refine ⟨by rw [q3]; exact vp_in_nI (by omega) (by decide), nm_r (e' := rn (d + 1)) (by rw [q3, nI_clamp (by omega)]) ?_⟩
      refine ⟨by rw [q1]; exact vp_in_nI (by omega) (by decide), nm_r (e' := rn (d + 3)) (by rw [q1, nI_clamp (by omega)]) ?_⟩
      have A0 : ¬ (es_io (rk d) = true ∧ es_bd (rk d) = es_bd (rk (d + 2))) → wX_settle_101 post (wX_settle_4 post cc sz kn wr (n + 1)) cc 1 (nI i) (rk (d + 2)) (rk d) (rn (d + 1)) (rn (d + 3)) sz kn (nI (d + 4)) wr kd nm ic ik im br rk rn sk sn := by
        intro hn
        unfold wX_settle_101 wX_settle_102
        exact br_t rfl (es_x_ap _ _ _ (es_x_142 (by omega) (G _ (if_neg hn).symm)))
      refine es_x_io _ (br_c (fun a => ?_) (fun a => ?_))
      · refine A0 (fun z => ?_)
        rw [if_pos z.1] at a
        exact absurd a (by decide)
      · have hb : es_io (rk d) = true := by
          by_cases e : es_io (rk d) = true
          · exact e
          · rw [if_neg e] at a; exact absurd rfl a
        refine es_x_bd _ (es_x_bd _ (br_c (fun b => ?_) (fun b => ?_)))
        · unfold wX_settle_102
          exact br_f (by decide) (es_x_ch _ _ _ _ (es_x_142 (by omega) (G _ (if_pos ⟨hb, b⟩).symm)))
        · exact A0 (fun z => b z.2)
    · rw [if_neg hs]
      have e1 : es_s1 cc (es_ro rk rn c) = none := by
        by_cases h4 : c < 4
        · exact es_s1_4 h4
        · obtain ⟨d, rfl⟩ : ∃ d, c = d + 4 := ⟨c - 4, by omega⟩
          exact if_neg hs
      rw [es_se_n e1] at h
      exact br_t rfl (nm_e (es_x_set0 (h c rk rn rfl)))
theorem es_x_app {post : SX → Prop} {k n : Int32} (c : Nat) (hc : c < 72) (h : post (sz, kn, nI (c + 1), wr, kd, nm, ic, ik, im, br, upd rk c k, upd rn c n, sk, sn)) : wpX_append post (sz, kn, nI c, wr, kd, nm, ic, ik, im, br, rk, rn, sk, sn) k n := by
  unfold wpX_append
  dsimp only
  rw [nI_clamp (by omega)]
  exact ⟨vp_in_nI hc (by decide), nm_e ⟨vp_in_nI hc (by decide), nm_e (nm_r (nI_1 c) h)⟩⟩
theorem es_ro_app {k n : Int32} (c : Nat) : es_ro (upd rk c k) (upd rn c n) (c + 1) = (k, n) :: es_ro rk rn c := by
  show (upd rk c k c, upd rn c n c) :: es_ro (upd rk c k) (upd rn c n) c = _
  rw [pk_us, pk_us, es_ro_cg (a := upd rk c k) (b := upd rn c n) (a' := rk) (b' := rn) (n := c) (fun j hj => ⟨pk_un (by omega), pk_un (by omega)⟩)]
theorem es_x_cl64 {post : SX → Prop} (c : Nat) (hc : c < 72) (h : ∀ (c' : Nat) (rk' rn' : Nat → Int32), es_ro rk' rn' c' = (6, 0) :: es_ro rk rn c → post (sz, kn, nI c', wr, kd, nm, ic, ik, im, br, rk', rn', sk, sn)) : wX_close_64 post sz kn (nI c) wr kd nm ic ik im br rk rn sk sn := by
  unfold wX_close_64
  exact es_x_app c hc (h (c + 1) _ _ (es_ro_app c))
theorem es_x_clo {post : SX → Prop} (c : Nat) (hc : c < 72) (h : ∀ (c' : Nat) (rk' rn' : Nat → Int32), es_ro rk' rn' c' = es_cl (es_ro rk rn c) → post (sz, kn, nI c', wr, kd, nm, ic, ik, im, br, rk', rn', sk, sn)) : wpX_close post (sz, kn, nI c, wr, kd, nm, ic, ik, im, br, rk, rn, sk, sn) := by
  unfold wpX_close
  have K : ¬ (es_kf (es_ro rk rn c) 0 = 0 ∧ es_kf (es_ro rk rn c) 1 = 5) → wX_close_64 post sz kn (nI c) wr kd nm ic ik im br rk rn sk sn := by
    intro hn
    refine es_x_cl64 c hc ?_
    have e : es_cl (es_ro rk rn c) = (6, 0) :: es_ro rk rn c := by
      rcases es_cl_i (es_ro rk rn c) with ⟨v, m, T, e, _⟩ | e
      · rw [e] at hn
        exact absurd ⟨rfl, rfl⟩ hn
      · exact e
    rw [e] at h
    exact h
  refine es_x_kf c 0 (by omega) (by omega) (br_c (fun a => es_x_kf c 1 (by omega) (by omega) (br_c (fun b => ?_) (fun b => K fun z => b z.2))) (fun a => K fun z => a z.1))
  have h2 : 2 ≤ c := by
    rw [es_ro_kf 1 c] at b
    by_cases e : c ≤ 1
    · rw [if_pos e] at b; exact absurd b (by decide)
    · omega
  obtain ⟨d, rfl⟩ : ∃ d, c = d + 2 := ⟨c - 2, by omega⟩
  have q1 : nI (d + 2) - 1 = nI (d + 1) := pk_sub (a := d + 2) (b := 1) (by omega)
  have q2 : nI (d + 2) - 2 = nI d := pk_sub (a := d + 2) (b := 2) (by omega)
  have e : es_cl (es_ro rk rn (d + 2)) = (0, rn (d + 1)) :: es_ro rk rn d := es_cl_y (x := (rk d, rn d)) a b
  rw [e] at h
  rw [q1, q2, nI_clamp (by omega), nI_clamp (by omega)]
  refine ⟨vp_in_nI (by omega) (by decide), nm_e ⟨vp_in_nI (by omega) (by decide), vp_in_nI (by omega) (by decide), nm_e (nm_e (h (d + 1) _ _ ?_))⟩⟩
  exact es_ro_app d
theorem es_x_58 {post : SX → Prop} (k n : Int32) (c : Nat) (hc : c < 72) (hk : ¬ (es_kf (es_ro rk rn c) 0 ≠ 7 ∧ es_en (es_kf (es_ro rk rn c) 0) = es_be k))
    (h : ∀ (c' : Nat) (rk' rn' : Nat → Int32), es_pu (es_ro rk rn c) k n = some (es_ro rk' rn' c') → post (sz, kn, nI c', wr, kd, nm, ic, ik, im, br, rk', rn', sk, sn)) : wX_push_58 post k n sz kn (nI c) wr kd nm ic ik im br rk rn sk sn := by
  unfold wX_push_58
  unfold es_pu at h
  rw [if_neg hk] at h
  refine es_x_io _ (br_c (fun a => ?_) (fun a => ?_))
  · have ho : ¬ es_io k = true := fun z => by rw [if_pos z] at a; exact absurd a (by decide)
    rw [if_neg ho] at h
    refine br_c (fun b => ?_) (fun b => ?_)
    · rw [if_pos b] at h
      unfold wpX_settle
      refine ⟨74, es_x_set 72 74 0 c rk rn rfl (by omega) (by omega) ?_⟩
      intro c' rk' rn' e'
      have l := (es_se_ln (c := 0) 72 (es_ro rk rn c)).1
      rw [← e', es_ro_ln, es_ro_ln] at l
      rw [← e'] at h
      exact es_x_clo c' (by omega) (fun c2 rk2 rn2 e2 => h c2 rk2 rn2 (by rw [e2]))
    · rw [if_neg b] at h
      exact es_x_app c hc (h (c + 1) _ _ (by rw [es_ro_app]))
  · have ho : es_io k = true := by
      by_cases e : es_io k = true
      · exact e
      · rw [if_neg e] at a; exact absurd rfl a
    rw [if_pos ho] at h
    refine es_x_bd _ ?_
    unfold wpX_settle
    refine ⟨74, es_x_set 72 74 0 c rk rn rfl (by omega) (by omega) ?_⟩
    intro c' rk' rn' e'
    have l := (es_se_ln (c := es_bd k) 72 (es_ro rk rn c)).1
    rw [← e', es_ro_ln, es_ro_ln] at l
    rw [← e'] at h
    exact es_x_app c' (by omega) (h (c' + 1) _ _ (by rw [es_ro_app]))
theorem es_x_37 {post : SX → Prop} (k n x4 z0 : Int32) (c : Nat) (hc : c < 72) (h4 : x4 = if es_en (es_kf (es_ro rk rn c) 0) = true then 1 else 0) (h0 : z0 = if es_be k = true then 1 else 0)
    (hn : es_pu (es_ro rk rn c) k n = none → post (sz, kn, nI c, 1, kd, nm, ic, ik, im, br, rk, rn, sk, sn))
    (h : ∀ (c' : Nat) (rk' rn' : Nat → Int32), es_pu (es_ro rk rn c) k n = some (es_ro rk' rn' c') → post (sz, kn, nI c', wr, kd, nm, ic, ik, im, br, rk', rn', sk, sn)) : wX_push_37 post k n (es_kf (es_ro rk rn c) 0) x4 z0 sz kn (nI c) wr kd nm ic ik im br rk rn sk sn := by
  unfold wX_push_37
  refine br_c (fun a => es_x_58 k n c hc (fun z => z.1 a) h) (fun a => br_c (fun b => ?_) (fun b => es_x_58 k n c hc (fun z => b ?_) h))
  · refine hn (if_pos ⟨a, ?_⟩)
    rw [h4, h0] at b
    cases p : es_en (es_kf (es_ro rk rn c) 0) <;> cases q : es_be k
    · rfl
    · rw [p, q] at b; exact absurd b (by decide)
    · rw [p, q] at b; exact absurd b (by decide)
    · rfl
  · rw [h4, h0, z.2]
theorem es_x_21 {post : SX → Prop} (k n x4 : Int32) (c : Nat) (hc : c < 72) (h4 : x4 = if es_en (es_kf (es_ro rk rn c) 0) = true then 1 else 0)
    (hn : es_pu (es_ro rk rn c) k n = none → post (sz, kn, nI c, 1, kd, nm, ic, ik, im, br, rk, rn, sk, sn))
    (h : ∀ (c' : Nat) (rk' rn' : Nat → Int32), es_pu (es_ro rk rn c) k n = some (es_ro rk' rn' c') → post (sz, kn, nI c', wr, kd, nm, ic, ik, im, br, rk', rn', sk, sn)) : wX_push_21 post k n (es_kf (es_ro rk rn c) 0) x4 sz kn (nI c) wr kd nm ic ik im br rk rn sk sn := by
  unfold wX_push_21 wX_push_32
  refine br_c (fun a => es_x_37 k n x4 1 c hc h4 (by rw [a]; rfl) hn h) (fun a => br_c (fun b => es_x_37 k n x4 1 c hc h4 (by rw [b]; rfl) hn h) (fun b => es_x_37 k n x4 0 c hc h4 ?_ hn h))
  have e : ¬ es_be k = true := by unfold es_be; rw [decide_eq_false a, decide_eq_false b]; decide
  rw [if_neg e]
theorem es_x_push {post : SX → Prop} (k n : Int32) (c : Nat) (hc : c < 72)
    (hn : es_pu (es_ro rk rn c) k n = none → post (sz, kn, nI c, 1, kd, nm, ic, ik, im, br, rk, rn, sk, sn))
    (h : ∀ (c' : Nat) (rk' rn' : Nat → Int32), es_pu (es_ro rk rn c) k n = some (es_ro rk' rn' c') → post (sz, kn, nI c', wr, kd, nm, ic, ik, im, br, rk', rn', sk, sn)) : wpX_push post (sz, kn, nI c, wr, kd, nm, ic, ik, im, br, rk, rn, sk, sn) k n := by
  unfold wpX_push wX_push_16
  refine es_x_kf c 0 (by omega) (by omega) (br_c (fun a => es_x_21 k n 1 c hc (by rw [a]; rfl) hn h) (fun a => br_c (fun b => es_x_21 k n 1 c hc (by rw [b]; rfl) hn h) (fun b => es_x_21 k n 0 c hc ?_ hn h)))
  have e : ¬ es_en (es_kf (es_ro rk rn c) 0) = true := by unfold es_en; rw [decide_eq_false a, decide_eq_false b]; decide
  rw [if_neg e]
end
end
section
/-! X: stretches -/
def es_V (kd nm : Nat → Int32) : Prop := ∀ j, es_ok (kd j) ∧ (kd j = 0 ∨ nm j = 0)
def es_all (R : es_L) : Prop := ∀ x, x ∈ R → es_ok x.1
def es_SI (kd nm ic ik im br : Nat → Int32) (s : Nat) : Prop :=
  (br s = 1 ∧ ∀ t, es_rn (es_tn kd nm (8 * s) 8) t = none) ∨
  (br s = 0 ∧ ∃ m, m ≤ 8 ∧ ic s = nI m ∧ (∀ t, es_rn (es_tn ik im (8 * s) m) t = es_rn (es_tn kd nm (8 * s) 8) t) ∧ ∀ j, j < m → es_ok (ik (8 * s + j)))
theorem es_all_c {x : Int32 × Int32} {R : es_L} (h : es_ok x.1) (hR : es_all R) : es_all (x :: R) := by
  intro y hy
  rcases List.mem_cons.mp hy with e | e
  · rw [e]; exact h
  · exact hR y e
theorem es_all_t {x : Int32 × Int32} {R : es_L} (h : es_all (x :: R)) : es_all R := fun y hy => h y (List.mem_cons.mpr (Or.inr hy))
theorem es_se_all {c : Int32} : ∀ (n : Nat) (R : es_L), es_all R → es_all (es_se c n R) := by
  intro n
  induction n with
  | zero => intro R h; exact h
  | succ n ih =>
    intro R h
    cases e : es_s1 c R with
    | none => rw [es_se_n e]; exact h
    | some R' =>
      rw [es_se_s e]
      refine ih R' ?_
      obtain ⟨b, o, q, a, f, m, T, rfl, rfl, _⟩ := es_s1_i e
      exact es_all_c (Or.inl rfl) (es_all_t (es_all_t (es_all_t h)))
theorem es_cl_all {R : es_L} (h : es_all R) : es_all (es_cl R) := by
  rcases es_cl_i R with ⟨v, m, T, rfl, e⟩ | e
  · rw [e]; exact es_all_c (Or.inl rfl) (es_all_t (es_all_t h))
  · rw [e]; exact es_all_c (Or.inr (Or.inr (Or.inl rfl))) h
theorem es_pu_all {R R' : es_L} {k n : Int32} (hk : es_ok k) (hR : es_all R) (h : es_pu R k n = some R') : es_all R' := by
  rcases (es_pu_i h).2 with ⟨ho, rfl⟩ | ⟨rfl, rfl⟩ | ⟨_, _, rfl⟩
  · exact es_all_c hk (es_se_all 72 R hR)
  · exact es_cl_all (es_se_all 72 R hR)
  · exact es_all_c hk hR
theorem es_SI_cg {kd nm ic ik im br ic' ik' im' br' : Nat → Int32} {s : Nat} (h : es_SI kd nm ic ik im br s) (h1 : ic' s = ic s) (h2 : br' s = br s) (h3 : ∀ j, 8 * s ≤ j → j < 8 * s + 8 → ik' j = ik j ∧ im' j = im j) : es_SI kd nm ic' ik' im' br' s := by
  rcases h with ⟨a, b⟩ | ⟨a, m, hm, b, c, d⟩
  · exact Or.inl ⟨h2.trans a, b⟩
  · refine Or.inr ⟨h2.trans a, m, hm, h1.trans b, fun t => ?_, fun j hj => ?_⟩
    · rw [es_tn_cg (a := ik') (b := im') (a' := ik) (b' := im) (i := 8 * s) (n := m) (fun j x y => h3 j x (by omega))]
      exact c t
    · rw [(h3 (8 * s + j) (by omega) (by omega)).1]
      exact d j hj
theorem es_SI_tk {kd nm kd' nm' ic ik im br : Nat → Int32} {s : Nat} (h : es_SI kd nm ic ik im br s) (h3 : ∀ j, j < 8 * s + 8 → kd' j = kd j ∧ nm' j = nm j) : es_SI kd' nm' ic ik im br s := by
  unfold es_SI at h ⊢
  rw [es_tn_cg (a := kd') (b := nm') (a' := kd) (b' := nm) (i := 8 * s) (n := 8) (fun j _ y => h3 j y)]
  exact h
section
variable {sz kn ct wr : Int32} {kd nm ic ik im br rk rn sk sn : Nat → Int32}
theorem es_8s (s k : Nat) : (8 : Int32) * nI s + nI k = nI (8 * s + k) := by
  rw [show (8 : Int32) * nI s = nI (8 * s) from pk_mul 8 s, nI_add]
/-- a stretch that is being learnt -/
def es_LS (kd nm : Nat → Int32) (s k c : Nat) (wr : Int32) (rk rn : Nat → Int32) : Prop :=
  (wr = 0 ∧ es_all (es_ro rk rn c) ∧ ∀ t, es_rn (es_ro rk rn c) t = es_rn (es_tn kd nm (8 * s) k) t) ∨ (wr = 1 ∧ ∀ t, es_rn (es_tn kd nm (8 * s) 8) t = none)
theorem es_x_l12 {post : SX → Prop} {s : Nat} (hs : 8 * s + 8 ≤ 60) (hV : es_V kd nm)
    (J : ∀ (c' : Nat) (wr' : Int32) (rk' rn' : Nat → Int32), c' ≤ 8 → es_LS kd nm s 8 c' wr' rk' rn' → wX_learnOne_57 post (nI s) sz kn (nI c') wr' kd nm ic ik im br rk' rn' sk sn) :
    ∀ (m fuel k c : Nat) (wr : Int32) (rk rn : Nat → Int32), k + m = 8 → m < fuel → c ≤ k → es_LS kd nm s k c wr rk rn → wX_learnOne_12 post (nI s) fuel (nI k) sz kn (nI c) wr kd nm ic ik im br rk rn sk sn := by
  intro m
  induction m with
  | zero =>
    intro fuel k c wr rk rn hk hf hc hL
    obtain ⟨n, rfl⟩ : ∃ n, fuel = n + 1 := ⟨fuel - 1, by omega⟩
    have ek : k = 8 := by omega
    subst ek
    unfold wX_learnOne_12
    exact br_t (nI_le (a := 8) (by omega) (by decide)) (J c wr rk rn hc hL)
  | succ m ih =>
    intro fuel k c wr rk rn hk hf hc hL
    obtain ⟨n, rfl⟩ : ∃ n, fuel = n + 1 := ⟨fuel - 1, by omega⟩
    unfold wX_learnOne_12
    refine br_f (nI_ge (b := 8) (by omega) (by decide)) ?_
    rcases hL with ⟨hw, hA, hR⟩ | ⟨hw, hR⟩
    · subst hw
      refine br_t rfl ?_
      rw [es_8s, nI_clamp (by omega)]
      refine ⟨vp_in_nI (by omega) (by decide), vp_in_nI (by omega) (by decide), ?_⟩
      have eT : ∀ t, es_rn ((kd (8 * s + k), nm (8 * s + k)) :: es_ro rk rn c) t = es_rn (es_tn kd nm (8 * s) (k + 1)) t := by
        intro t
        rw [es_tn_s, es_rn_c, es_rn_c, hR]
      refine es_x_push _ _ c (by omega) (fun hp => ?_) (fun c' rk' rn' hp => ?_)
      · refine nm_r (nI_1 k) ?_
        refine ih n (k + 1) c 1 rk rn (by omega) (by omega) (by omega) (Or.inr ⟨rfl, fun t => ?_⟩)
        have e8 : es_tn kd nm (8 * s) 8 = es_tn kd nm (8 * s + (k + 1)) m ++ es_tn kd nm (8 * s) (k + 1) := by
          rw [← es_tn_ap, show k + 1 + m = 8 from by omega]
        rw [e8, es_rn_ap, ← eT, es_pu_no hp, es_rn_no]
      · refine nm_r (nI_1 k) ?_
        have l := (es_pu_ln hp).1
        rw [es_ro_ln, es_ro_ln] at l
        refine ih n (k + 1) c' 0 rk' rn' (by omega) (by omega) (by omega) (Or.inl ⟨rfl, es_pu_all (hV _).1 hA hp, fun t => ?_⟩)
        rw [es_pu_so hp, eT]
    · subst hw
      exact br_f (by decide) (J c 1 rk rn (by omega) (Or.inr ⟨rfl, hR⟩))
theorem es_x_l79 {post : SX → Prop} {s c : Nat} (hs : 8 * s + 8 ≤ 60) (hc : c ≤ 8) : ∀ (m fuel k : Nat) (ik im : Nat → Int32), k + m = c → m < fuel → (∀ j, j < k → ik (8 * s + j) = rk j ∧ im (8 * s + j) = rn j) →
    (∀ (ik' im' : Nat → Int32), (∀ j, j < c → ik' (8 * s + j) = rk j ∧ im' (8 * s + j) = rn j) → (∀ j, j < 8 * s ∨ 8 * s + 8 ≤ j → ik' j = ik j ∧ im' j = im j) → post (sz, kn, nI c, wr, kd, nm, ic, ik', im', br, rk, rn, sk, sn)) →
    wX_learnOne_79 post (nI s) sz kn (nI c) wr fuel (nI k) kd nm ic ik im br rk rn sk sn := by
  intro m
  induction m with
  | zero =>
    intro fuel k ik im hk hf hj h
    obtain ⟨n, rfl⟩ : ∃ n, fuel = n + 1 := ⟨fuel - 1, by omega⟩
    have ek : k = c := by omega
    subst ek
    unfold wX_learnOne_79
    exact br_t (nI_le (by omega) (by omega)) (h ik im hj (fun j _ => ⟨rfl, rfl⟩))
  | succ m ih =>
    intro fuel k ik im hk hf hj h
    obtain ⟨n, rfl⟩ : ∃ n, fuel = n + 1 := ⟨fuel - 1, by omega⟩
    unfold wX_learnOne_79
    refine br_f (nI_ge (by omega) (by omega)) ?_
    rw [es_8s, nI_clamp (by omega), nI_clamp (by omega)]
    refine ⟨vp_in_nI (by omega) (by decide), vp_in_nI (by omega) (by decide), nm_e ⟨vp_in_nI (by omega) (by decide), vp_in_nI (by omega) (by decide), nm_e (nm_r (nI_1 k) ?_)⟩⟩
    refine ih n (k + 1) _ _ (by omega) (by omega) (fun j hj' => ?_) (fun ik' im' h1 h2 => h ik' im' h1 (fun j hj' => ?_))
    · by_cases e : j = k
      · subst e
        exact ⟨pk_us, pk_us⟩
      · rw [pk_un (by omega), pk_un (by omega)]
        exact hj j (by omega)
    · rw [(h2 j hj').1, (h2 j hj').2, pk_un (by omega), pk_un (by omega)]
      exact ⟨rfl, rfl⟩
theorem es_x_lone {post : SX → Prop} {s : Nat} (hs : 8 * s + 8 ≤ 60) (hV : es_V kd nm)
    (h : ∀ (ct' wr' : Int32) (ic' ik' im' br' rk' rn' : Nat → Int32), es_SI kd nm ic' ik' im' br' s → (∀ s', s' ≠ s → ic' s' = ic s' ∧ br' s' = br s') → (∀ j, j < 8 * s ∨ 8 * s + 8 ≤ j → ik' j = ik j ∧ im' j = im j) → post (sz, kn, ct', wr', kd, nm, ic', ik', im', br', rk', rn', sk, sn)) :
    wpX_learnOne post (sz, kn, ct, wr, kd, nm, ic, ik, im, br, rk, rn, sk, sn) (nI s) := by
  unfold wpX_learnOne
  refine ⟨9, es_x_l12 hs hV ?_ 8 9 0 0 0 rk rn rfl (by omega) (by omega) (Or.inl ⟨rfl, (fun x hx => absurd hx List.not_mem_nil), fun t => rfl⟩)⟩
  intro c' wr' rk' rn' hc hL
  unfold wX_learnOne_57
  rw [nI_clamp (by omega)]
  refine ⟨vp_in_nI (by omega) (by decide), nm_e ⟨vp_in_nI (by omega) (by decide), nm_e ⟨c' + 1, ?_⟩⟩⟩
  refine es_x_l79 hs hc c' (c' + 1) 0 ik im (by omega) (by omega) (fun j hj => absurd hj (by omega)) ?_
  intro ik' im' h1 h2
  refine h _ _ _ _ _ _ _ _ ?_ (fun s' hs' => ⟨pk_un hs', pk_un hs'⟩) h2
  rcases hL with ⟨hw, hA, hR⟩ | ⟨hw, hR⟩
  · subst hw
    refine Or.inr ⟨pk_us, c', hc, pk_us, fun t => ?_, fun j hj => ?_⟩
    · rw [← hR t]
      have e : es_tn ik' im' (8 * s) c' = es_ro rk' rn' c' := es_ro_cg (fun j hj => h1 j hj)
      rw [e]
    · rw [(h1 j hj).1]
      exact hA _ (es_ro_m (b := rn') c' j hj)
  · subst hw
    exact Or.inl ⟨pk_us, hR⟩
theorem es_x_l13 {post : SX → Prop} {W : Nat} (hW : 8 * W ≤ 60) (hV : es_V kd nm) : ∀ (m fuel s : Nat) (ct wr : Int32) (ic ik im br rk rn : Nat → Int32), s + m = W → m < fuel → (∀ q, q < s → es_SI kd nm ic ik im br q) →
    (∀ (ct' wr' : Int32) (ic' ik' im' br' rk' rn' : Nat → Int32), (∀ q, q < W → es_SI kd nm ic' ik' im' br' q) → post (sz, nI W, ct', wr', kd, nm, ic', ik', im', br', rk', rn', sk, sn)) →
    wX_learn_13 post (nI W) fuel (nI s) sz kn ct wr kd nm ic ik im br rk rn sk sn := by
  intro m
  induction m with
  | zero =>
    intro fuel s ct wr ic ik im br rk rn hs hf hI h
    obtain ⟨n, rfl⟩ : ∃ n, fuel = n + 1 := ⟨fuel - 1, by omega⟩
    have es : s = W := by omega
    subst es
    unfold wX_learn_13
    exact br_t (nI_le (by omega) (by omega)) (h _ _ _ _ _ _ _ _ hI)
  | succ m ih =>
    intro fuel s ct wr ic ik im br rk rn hs hf hI h
    obtain ⟨n, rfl⟩ : ∃ n, fuel = n + 1 := ⟨fuel - 1, by omega⟩
    unfold wX_learn_13
    refine br_f (nI_ge (by omega) (by omega)) (es_x_lone (by omega) hV ?_)
    intro ct' wr' ic' ik' im' br' rk' rn' h1 h2 h3
    refine nm_r (nI_1 s) (ih n (s + 1) _ _ _ _ _ _ _ _ (by omega) (by omega) (fun q hq => ?_) h)
    by_cases e : q = s
    · rw [e]; exact h1
    · exact es_SI_cg (hI q (by omega)) (h2 q e).1 (h2 q e).2 (fun j a b => h3 j (by omega))
theorem es_x_learn {post : SX → Prop} {z k : Nat} (hz : z ≤ 60) (hk : 8 * k ≤ z) (hV : es_V kd nm) (hI : ∀ q, q < k → es_SI kd nm ic ik im br q)
    (h : ∀ (ct' wr' : Int32) (ic' ik' im' br' rk' rn' : Nat → Int32), (∀ q, q < z / 8 → es_SI kd nm ic' ik' im' br' q) → post (nI z, nI (z / 8), ct', wr', kd, nm, ic', ik', im', br', rk', rn', sk, sn)) :
    wpX_learn post (nI z, nI k, ct, wr, kd, nm, ic, ik, im, br, rk, rn, sk, sn) := by
  unfold wpX_learn
  have e : nI z / 8 = nI (z / 8) := pk_div (a := z) (d := 8) (by omega) (by decide) (by decide)
  refine ⟨by decide, nm_r e ⟨z + 1, es_x_l13 (by omega) hV (z / 8 - k) (z + 1) k ct wr ic ik im br rk rn (by omega) (by omega) hI h⟩⟩
theorem es_x_beg {post : SX → Prop} (h : ∀ (rk' rn' : Nat → Int32), es_ro rk' rn' 1 = [(5, 0)] → post (sz, kn, nI 1, 0, kd, nm, ic, ik, im, br, rk', rn', sk, sn)) : wpX_beginPart post (sz, kn, ct, wr, kd, nm, ic, ik, im, br, rk, rn, sk, sn) := by
  unfold wpX_beginPart
  exact es_x_app 0 (by omega) (h _ _ (es_ro_app 0))
end
end
section
/-! X: a part is read -/
section
variable {sz kn ct wr : Int32} {kd nm ic ik im br rk rn sk sn : Nat → Int32}
/-- the row while T has been read -/
def es_RS (T : es_L) (c : Nat) (wr : Int32) (rk rn : Nat → Int32) : Prop := (wr = 0 ∧ es_Go T (es_ro rk rn c)) ∨ (wr = 1 ∧ es_rn (T ++ [(5, 0)]) es_go = none)
theorem es_x_p12 {post : SX → Prop} {s m : Nat} {T : es_L} (hs : 8 * s + 8 ≤ 60) (hm : m ≤ 8) (hi : ic s = nI m) (hO : ∀ j, j < m → es_ok (ik (8 * s + j))) {N : Nat} (hN : N ≤ 72)
    (h : ∀ (c' : Nat) (wr' : Int32) (rk' rn' : Nat → Int32), c' ≤ N → es_RS (es_tn ik im (8 * s) m ++ T) c' wr' rk' rn' → post (sz, kn, nI c', wr', kd, nm, ic, ik, im, br, rk', rn', sk, sn)) :
    ∀ (d fuel k c : Nat) (wr : Int32) (rk rn : Nat → Int32), k + d = m → d < fuel → c + d ≤ N → (wr = 0 ∧ es_Go (es_tn ik im (8 * s) k ++ T) (es_ro rk rn c)) ∨ (wr = 1 ∧ es_rn ((es_tn ik im (8 * s) m ++ T) ++ [(5, 0)]) es_go = none) → wX_pushStretch_12 post (nI s) fuel (nI k) sz kn (nI c) wr kd nm ic ik im br rk rn sk sn := by
  intro d
  induction d with
  | zero =>
    intro fuel k c wr rk rn hk hf hc hS
    obtain ⟨n, rfl⟩ : ∃ n, fuel = n + 1 := ⟨fuel - 1, by omega⟩
    have ek : k = m := by omega
    subst ek
    unfold wX_pushStretch_12
    rw [nI_clamp (by omega), hi]
    exact ⟨vp_in_nI (by omega) (by decide), br_t (nI_le (by omega) (by omega)) (h c wr rk rn (by omega) hS)⟩
  | succ d ih =>
    intro fuel k c wr rk rn hk hf hc hS
    obtain ⟨n, rfl⟩ : ∃ n, fuel = n + 1 := ⟨fuel - 1, by omega⟩
    unfold wX_pushStretch_12
    rw [nI_clamp (by omega), hi]
    refine ⟨vp_in_nI (by omega) (by decide), br_f (nI_ge (by omega) (by omega)) ?_⟩
    rcases hS with ⟨hw, hG⟩ | ⟨hw, hR⟩
    · subst hw
      refine br_t rfl ?_
      rw [es_8s, nI_clamp (by omega)]
      refine ⟨vp_in_nI (by omega) (by decide), vp_in_nI (by omega) (by decide), ?_⟩
      refine es_x_push _ _ c (by omega) (fun hp => ?_) (fun c' rk' rn' hp => ?_)
      · refine nm_r (nI_1 k) (ih n (k + 1) c 1 rk rn (by omega) (by omega) (by omega) (Or.inr ⟨rfl, ?_⟩))
        have e : es_tn ik im (8 * s) m = es_tn ik im (8 * s + (k + 1)) d ++ es_tn ik im (8 * s) (k + 1) := by
          rw [← es_tn_ap, show k + 1 + d = m from by omega]
        rw [e, List.append_assoc (es_tn ik im (8 * s + (k + 1)) d)]
        exact es_dead _ (es_Go_n hG hp)
      · have l := (es_pu_ln hp).1
        rw [es_ro_ln, es_ro_ln] at l
        refine nm_r (nI_1 k) (ih n (k + 1) c' 0 rk' rn' (by omega) (by omega) (by omega) (Or.inl ⟨rfl, ?_⟩))
        exact es_Go_s (hO k (by omega)) (by rw [es_ro_ln]; omega) hG hp
    · subst hw
      exact br_f (by decide) (h c 1 rk rn (by omega) (Or.inr ⟨rfl, hR⟩))
theorem es_x_str {post : SX → Prop} {s c : Nat} {T : es_L} (hs : 8 * s + 8 ≤ 60) (hc : c + 8 ≤ 72) (hI : es_SI kd nm ic ik im br s) (hG : es_Go T (es_ro rk rn c))
    (h : ∀ (c' : Nat) (wr' : Int32) (rk' rn' : Nat → Int32), c' ≤ c + 8 → es_RS (es_tn kd nm (8 * s) 8 ++ T) c' wr' rk' rn' → post (sz, kn, nI c', wr', kd, nm, ic, ik, im, br, rk', rn', sk, sn)) :
    wpX_pushStretch post (sz, kn, nI c, wr, kd, nm, ic, ik, im, br, rk, rn, sk, sn) (nI s) := by
  unfold wpX_pushStretch
  dsimp only
  rw [nI_clamp (by omega)]
  refine ⟨vp_in_nI (by omega) (by decide), ?_⟩
  rcases hI with ⟨hb, hR⟩ | ⟨hb, m, hm, hi, hE, hO⟩
  · rw [hb]
    refine nm_e ⟨rfl, rfl, 1, ?_⟩
    have P : post (sz, kn, nI c, 1, kd, nm, ic, ik, im, br, rk, rn, sk, sn) := h c 1 rk rn (by omega) (Or.inr ⟨rfl, by rw [List.append_assoc, es_rn_ap, hR]⟩)
    unfold wX_pushStretch_12
    exact ⟨vp_in_nI (by omega) (by decide), br_c (fun _ => P) (fun _ => br_f (by decide) P)⟩
  · rw [hb]
    refine nm_e ⟨rfl, rfl, 9, ?_⟩
    refine es_x_p12 (T := T) hs hm hi hO (N := c + 8) hc ?_ m 9 0 c 0 rk rn (by omega) (by omega) (by omega) (Or.inl ⟨rfl, hG⟩)
    intro c' wr' rk' rn' hc' hS
    refine h c' wr' rk' rn' hc' ?_
    rcases hS with ⟨a, b⟩ | ⟨a, b⟩
    · exact Or.inl ⟨a, es_Go_e b (fun t => by rw [es_rn_ap, es_rn_ap, hE])⟩
    · refine Or.inr ⟨a, ?_⟩
      rw [List.append_assoc, es_rn_ap, hE, ← es_rn_ap, ← List.append_assoc] at b
      exact b
theorem es_x_100 {post : Int32 → SX → Prop} (c : Nat) (hc : c ≤ 72) (h0 : ¬ (wr = 0 ∧ c = 1 ∧ rk 0 = 0) → post 0 (sz, kn, nI c, wr, kd, nm, ic, ik, im, br, rk, rn, sk, sn)) (h1 : wr = 0 → c = 1 → rk 0 = 0 → post 1 (sz, kn, nI c, wr, kd, nm, ic, ik, im, br, rk, rn, sk, sn)) : wX_read_100 post sz kn (nI c) wr kd nm ic ik im br rk rn sk sn := by
  unfold wX_read_100
  exact br_c (fun a => pk_eq c 1 (fun b => br_c (fun d => h1 a b d) (fun d => h0 fun z => d z.2.2)) (fun b => h0 fun z => b z.2.1)) (fun a => h0 fun z => a z.1)
theorem es_x_86 {post : Int32 → SX → Prop} {T : es_L} (c : Nat) (hc : c < 72) (hS : es_RS T c wr rk rn)
    (h0 : es_ac T = none → ∀ (ct' wr' : Int32) (rk' rn' : Nat → Int32), post 0 (sz, kn, ct', wr', kd, nm, ic, ik, im, br, rk', rn', sk, sn))
    (h1 : ∀ v, es_ac T = some v → ∀ (ct' wr' : Int32) (rk' rn' : Nat → Int32), rn' 0 = v → post 1 (sz, kn, ct', wr', kd, nm, ic, ik, im, br, rk', rn', sk, sn)) : wX_read_86 post sz kn (nI c) wr kd nm ic ik im br rk rn sk sn := by
  unfold wX_read_86
  rcases hS with ⟨hw, hG⟩ | ⟨hw, hR⟩
  · subst hw
    obtain ⟨f1, f2⟩ := es_Go_f (by rw [es_ro_ln]; omega) hG
    refine br_t rfl (es_x_push 6 0 c hc (fun hp => ?_) (fun c' rk' rn' hp => ?_))
    · exact es_x_100 c (by omega) (fun _ => h0 (f1 hp) _ _ _ _) (fun z => absurd z (by decide))
    · have l := (es_pu_ln hp)
      rw [es_ro_ln, es_ro_ln] at l
      obtain ⟨d, rfl⟩ : ∃ d, c' = d + 1 := ⟨c' - 1, by omega⟩
      rcases f2 _ hp with ⟨v, e, ev⟩ | ⟨e, ev⟩
      · have l2 := congrArg List.length e
        rw [es_ro_ln] at l2
        have d0 : d = 0 := by
          have l3 : d + 1 = 1 := l2
          omega
        subst d0
        have e2 : (rk' 0, rn' 0) = (0, v) := by
          have e3 : [(rk' 0, rn' 0)] = [(0, v)] := e
          injection e3
        injection e2 with e2 e3
        exact es_x_100 1 (by omega) (fun z => absurd ⟨rfl, rfl, e2⟩ z) (fun _ _ _ => h1 v ev _ _ _ _ e3)
      · refine es_x_100 (d + 1) (by omega) (fun _ => h0 ev _ _ _ _) (fun _ z1 z2 => ?_)
        rcases e with e | e
        · rw [es_ro_bo] at e; exact absurd z2 e
        · rw [es_ro_ln] at e; exact absurd z1 e
  · subst hw
    exact br_f (by decide) (es_x_100 c (by omega) (fun _ => h0 (es_dead_ac hR) _ _ _ _) (fun z => absurd z (by decide)))
theorem es_x_61 {post : Int32 → SX → Prop} {J13 : Int32 → Int32 → Int32 → Int32 → Int32 → Int32 → (Nat → Int32) → (Nat → Int32) → (Nat → Int32) → (Nat → Int32) → (Nat → Int32) → (Nat → Int32) → (Nat → Int32) → (Nat → Int32) → (Nat → Int32) → (Nat → Int32) → Prop}
    {x2 : Int32} {i q st c : Nat} (hp : i + q < 60) (hc : c < 72) (hV : es_V kd nm) (hG : es_Go (es_tn kd nm i q) (es_ro rk rn c))
    (h : ∀ (c' : Nat) (wr' : Int32) (rk' rn' : Nat → Int32), c' ≤ c + 1 → es_RS (es_tn kd nm i (q + 1)) c' wr' rk' rn' → J13 (nI (i + q + 1)) (nI (st + 1)) sz kn (nI c') wr' kd nm ic ik im br rk' rn' sk sn) :
    wX_read_61 post J13 x2 (nI (i + q)) (nI st) sz kn (nI c) 0 kd nm ic ik im br rk rn sk sn := by
  unfold wX_read_61
  rw [nI_clamp (by omega)]
  refine ⟨vp_in_nI (by omega) (by decide), vp_in_nI (by omega) (by decide), es_x_push _ _ c hc (fun e => ?_) (fun c' rk' rn' e => ?_)⟩
  · exact nm_r (nI_1 _) (nm_r (nI_1 _) (h c 1 rk rn (by omega) (Or.inr ⟨rfl, es_Go_n hG e⟩)))
  · have l := (es_pu_ln e).1
    rw [es_ro_ln, es_ro_ln] at l
    exact nm_r (nI_1 _) (nm_r (nI_1 _) (h c' 0 rk' rn' l (Or.inl ⟨rfl, es_Go_s (hV _).1 (by rw [es_ro_ln]; omega) hG e⟩)))
theorem es_x_r13 {post : Int32 → SX → Prop} {i n : Nat} (hj : i + n ≤ 60) (hV : es_V kd nm) (hI : ∀ s, 8 * s + 8 ≤ i + n → es_SI kd nm ic ik im br s)
    (J : ∀ (c' : Nat) (wr' : Int32) (rk' rn' : Nat → Int32), c' ≤ 61 → es_RS (es_tn kd nm i n) c' wr' rk' rn' → wX_read_86 post sz kn (nI c') wr' kd nm ic ik im br rk' rn' sk sn) :
    ∀ (m fuel q st c : Nat) (wr : Int32) (rk rn : Nat → Int32), n ≤ q + m → q ≤ n → m < fuel → st ≤ q → c ≤ q + 1 → es_RS (es_tn kd nm i q) c wr rk rn → wX_read_13 post (nI (i + n)) fuel (nI (i + q)) (nI st) sz kn (nI c) wr kd nm ic ik im br rk rn sk sn := by
  intro m
  induction m with
  | zero =>
    intro fuel q st c wr rk rn h1 h2 hf hst hc hS
    obtain ⟨fu, rfl⟩ : ∃ fu, fuel = fu + 1 := ⟨fuel - 1, by omega⟩
    have e : q = n := by omega
    subst e
    unfold wX_read_13
    have Z := J c wr rk rn (by omega) hS
    exact br_c (fun _ => Z) (fun _ => br_t (nI_le (by omega) (by omega)) Z)
  | succ m ih =>
    intro fuel q st c wr rk rn h1 h2 hf hst hc hS
    obtain ⟨fu, rfl⟩ : ∃ fu, fuel = fu + 1 := ⟨fuel - 1, by omega⟩
    unfold wX_read_13
    by_cases hq : q = n
    · subst hq
      have Z := J c wr rk rn (by omega) hS
      exact br_c (fun _ => Z) (fun _ => br_t (nI_le (by omega) (by omega)) Z)
    · refine br_f (nI_ge (b := 60) (by omega) (by decide)) (br_f (nI_ge (by omega) (by omega)) ?_)
      rcases hS with ⟨hw, hG⟩ | ⟨hw, hR⟩
      · subst hw
        refine br_t rfl ⟨by decide, ?_⟩
        have e8 : nI (i + q) - nI (i + q) / 8 * 8 = nI ((i + q) % 8) := pk_rem (a := i + q) (d := 8) (by omega) (by decide) (by decide)
        have ed : nI (i + q) / 8 = nI ((i + q) / 8) := pk_div (a := i + q) (d := 8) (by omega) (by decide) (by decide)
        have ea : nI (i + q) + 8 = nI (i + q + 8) := nI_add (i + q) 8
        have Z : wX_read_61 post (wX_read_13 post (nI (i + n)) fu) (nI (i + n)) (nI (i + q)) (nI st) sz kn (nI c) 0 kd nm ic ik im br rk rn sk sn := by
          refine es_x_61 (by omega) (by omega) hV hG ?_
          intro c' wr' rk' rn' hc' hS'
          exact ih fu (q + 1) (st + 1) c' wr' rk' rn' (by omega) (by omega) (by omega) (by omega) (by omega) hS'
        rw [e8, ea, ed]
        refine pk_eq ((i + q) % 8) 0 (fun a => pk_lt (i + n) (i + q + 8) (fun b => Z) (fun b => ⟨by decide, ?_⟩)) (fun a => Z)
        have e9 : 8 * ((i + q) / 8) = i + q := by omega
        refine es_x_str (T := es_tn kd nm i q) (by omega) (by omega) (hI _ (by omega)) hG ?_
        intro c' wr' rk' rn' hc' hS'
        refine nm_e (nm_r (nI_1 st) ?_)
        refine ih fu (q + 8) (st + 1) c' wr' rk' rn' (by omega) (by omega) (by omega) (by omega) (by omega) ?_
        rw [e9, ← es_tn_ap] at hS'
        exact hS'
      · subst hw
        refine br_f (by decide) (J c 1 rk rn (by omega) (Or.inr ⟨rfl, ?_⟩))
        rw [show n = q + (n - q) from by omega, es_tn_ap]
        exact es_dead _ hR
/-- reading a part: one number is left just when the part is an expression, and it is its value -/
theorem es_x_read {post : Int32 → SX → Prop} {z k i n : Nat} (hz : z ≤ 60) (hk : 8 * k ≤ z) (hj : i + n ≤ z) (hV : es_V kd nm) (hI : ∀ q, q < k → es_SI kd nm ic ik im br q)
    (h0 : es_ac (es_tn kd nm i n) = none → ∀ (ct' wr' : Int32) (ic' ik' im' br' rk' rn' : Nat → Int32), (∀ q, q < z / 8 → es_SI kd nm ic' ik' im' br' q) → post 0 (nI z, nI (z / 8), ct', wr', kd, nm, ic', ik', im', br', rk', rn', sk, sn))
    (h1 : ∀ v, es_ac (es_tn kd nm i n) = some v → ∀ (ct' wr' : Int32) (ic' ik' im' br' rk' rn' : Nat → Int32), (∀ q, q < z / 8 → es_SI kd nm ic' ik' im' br' q) → rn' 0 = v → post 1 (nI z, nI (z / 8), ct', wr', kd, nm, ic', ik', im', br', rk', rn', sk, sn)) :
    wpX_read post (nI z, nI k, ct, wr, kd, nm, ic, ik, im, br, rk, rn, sk, sn) (nI i) (nI (i + n)) := by
  unfold wpX_read
  refine es_x_learn hz hk hV hI ?_
  intro ct1 wr1 ic1 ik1 im1 br1 rk1 rn1 hI1
  refine es_x_beg ?_
  intro rk2 rn2 e2
  refine ⟨n + 1, es_x_r13 (i := i) (n := n) (by omega) hV (fun s hs => hI1 s (by omega)) ?_ n (n + 1) 0 0 1 0 rk2 rn2 (by omega) (by omega) (by omega) (by omega) (by omega) ?_⟩
  · intro c' wr' rk' rn' hc' hS
    exact es_x_86 c' (by omega) hS (fun e ct' wr' rk' rn' => h0 e ct' wr' ic1 ik1 im1 br1 rk' rn' hI1) (fun v e ct' wr' rk' rn' er => h1 v e ct' wr' ic1 ik1 im1 br1 rk' rn' hI1 er)
  · refine Or.inl ⟨rfl, Or.inl ?_⟩
    rw [e2]
    exact es_Al_0
end
end
section
/-! X: all parts from one place on -/
section
variable {sz kn ct wr : Int32} {kd nm ic ik im br rk rn sk sn : Nat → Int32}
theorem es_x_29 {post : Int32 → Prop} {c : Nat} (hc : c ≤ 72) (h0 : ∀ j, 1 ≤ j → j < c → (rk j = 5 ∨ rk j = 6) → post 0) : ∀ (m fuel k : Nat), k + m = c → m < fuel → 1 ≤ k →
    ((∀ j, k ≤ j → j < c → rk j ≠ 5 ∧ rk j ≠ 6) → post 1) → wX_isWhole_29 post sz kn (nI c) wr kd nm ic ik im br rk rn sk sn fuel (nI k) := by
  intro m
  induction m with
  | zero =>
    intro fuel k hk hf h1 h
    obtain ⟨n, rfl⟩ : ∃ n, fuel = n + 1 := ⟨fuel - 1, by omega⟩
    unfold wX_isWhole_29
    exact br_t (nI_le (by omega) (by omega)) (h fun j a b => absurd a (by omega))
  | succ m ih =>
    intro fuel k hk hf h1 h
    obtain ⟨n, rfl⟩ : ∃ n, fuel = n + 1 := ⟨fuel - 1, by omega⟩
    unfold wX_isWhole_29
    rw [nI_clamp (by omega)]
    refine br_f (nI_ge (by omega) (by omega)) ⟨vp_in_nI (by omega) (by decide), br_c (fun a => h0 k h1 (by omega) (Or.inl a)) (fun a => ⟨vp_in_nI (by omega) (by decide), br_c (fun b => h0 k h1 (by omega) (Or.inr b)) (fun b => nm_r (nI_1 k) ?_)⟩)⟩
    refine ih n (k + 1) (by omega) (by omega) (by omega) (fun H => h fun j p q => ?_)
    by_cases e : j = k
    · rw [e]; exact ⟨a, b⟩
    · exact H j (by omega) q
theorem es_x_whole {post : Int32 → Prop} {T : es_L} (c : Nat) (hc : c ≤ 72) (hA : es_Al T (es_ro rk rn c)) (h0 : es_ac T = none → post 0)
    (h1 : ∀ v X, es_ro rk rn c = (0, v) :: X → 1 ≤ X.length → es_ac T = some (es_wv X v) → post 1) : wpX_isWhole post (sz, kn, nI c, 0, kd, nm, ic, ik, im, br, rk, rn, sk, sn) := by
  unfold wpX_isWhole
  obtain ⟨b5, bl⟩ := es_gA_bo hA.1
  rw [es_ro_ln] at bl
  obtain ⟨d, rfl⟩ : ∃ d, c = d + 1 := ⟨c - 1, by omega⟩
  rw [es_ro_bo] at b5
  have b5' : rk 0 = 5 := b5
  obtain ⟨w1, w2⟩ := es_whole hA
  refine br_t rfl (br_t b5' (es_x_kf (d + 1) 0 hc (by omega) (br_c (fun a => ?_) (fun a => ?_))))
  · have gH : es_gH (es_ro rk rn (d + 1)) := by
      rcases hA.1 with g | g
      · have t := es_en_o (es_gW_top g)
        rw [a] at t
        exact absurd t.1 (by decide)
      · exact g
    obtain ⟨n1, n2⟩ := es_ro_no (b := rn) b5' d
    refine ⟨d + 1, es_x_29 hc (fun j j1 j2 j3 => ?_) d (d + 1) 1 (by omega) (by omega) (by omega) (fun H => ?_)⟩
    · refine h0 (w2 fun z => ?_)
      rcases j3 with j3 | j3
      · exact n2.mp z.2 j j1 j2 j3
      · exact es_n6A hA.1 _ (es_ro_m (b := rn) (d + 1) j j2) j3
    · obtain ⟨v, X, e, ev⟩ := w1 gH (n2.mpr fun k p q => (H k p q).1)
      refine h1 v X e ?_ ev
      rw [e] at gH
      exact (es_gW_bo X gH.2).2
  · refine h0 (w2 fun z => a ?_)
    exact z.1.1
theorem es_x_19 {post : Int32 → Prop} : ∀ (N d fuel : Nat) (v : Int32), d ≤ N → d ≤ 71 → d < fuel → post (es_wv (es_ro rk rn d) v) → wX_wholeValue_19 post sz kn ct wr kd nm ic ik im br rk rn sk sn fuel v (nI d - 1) := by
  intro N
  induction N with
  | zero =>
    intro d fuel v hN hd hf h
    obtain ⟨n, rfl⟩ : ∃ n, fuel = n + 1 := ⟨fuel - 1, by omega⟩
    have e : d = 0 := by omega
    subst e
    unfold wX_wholeValue_19
    exact br_t (show nI 0 - 1 ≤ 0 by decide) h
  | succ N ih =>
    intro d fuel v hN hd hf h
    obtain ⟨n, rfl⟩ : ∃ n, fuel = n + 1 := ⟨fuel - 1, by omega⟩
    unfold wX_wholeValue_19
    match d, hN, hd, hf, h with
    | 0, _, _, _, h => exact br_t (show nI 0 - 1 ≤ 0 by decide) h
    | 1, _, _, _, h => exact br_t (show nI 1 - 1 ≤ 0 by decide) h
    | e + 2, hN, hd, hf, h =>
      have q1 : nI (e + 2) - 1 = nI (e + 1) := pk_sub (a := e + 2) (b := 1) (by omega)
      have q2 : nI (e + 1) - 1 = nI e := pk_sub (a := e + 1) (b := 1) (by omega)
      have q3 : nI (e + 1) + (-2) = nI e - 1 := by
        rw [← nI_1 e]; grind
      rw [q1, q2, q3, nI_clamp (by omega), nI_clamp (by omega)]
      refine br_f (nI_nle (by omega) (by omega)) ⟨vp_in_nI (by omega) (by decide), vp_in_nI (by omega) (by decide), es_x_ap _ _ _ (nm_e (ih e n _ (by omega) (by omega) (by omega) h))⟩
theorem es_x_wv {post : Int32 → Prop} {c : Nat} {v : Int32} {X : es_L} (hc : c ≤ 72) (e : es_ro rk rn c = (0, v) :: X) (h : post (es_wv X v)) : wpX_wholeValue post (sz, kn, nI c, wr, kd, nm, ic, ik, im, br, rk, rn, sk, sn) := by
  cases c with
  | zero => cases e
  | succ d =>
    have e' : (rk d, rn d) :: es_ro rk rn d = (0, v) :: X := e
    injection e' with e1 e2
    injection e1 with e3 e4
    unfold wpX_wholeValue
    dsimp only
    have q1 : nI (d + 1) - 1 = nI d := pk_sub (a := d + 1) (b := 1) (by omega)
    have q2 : nI (d + 1) - 2 = nI d - 1 := by rw [← nI_1 d]; grind
    rw [q1, q2, nI_clamp (by omega)]
    refine ⟨vp_in_nI (by omega) (by decide), nm_e (nm_e ⟨d + 1, es_x_19 d d (d + 1) _ (by omega) (by omega) (by omega) ?_⟩)⟩
    rw [e2, e4]; exact h
theorem es_x_on {post : Int32 → SX → Prop} {T : es_L} {p c : Nat} (hp : p < 60) (hc : c < 72) (hV : es_V kd nm) (hA : es_Al T (es_ro rk rn c))
    (h0 : es_rn (((kd p, nm p) :: T) ++ [(5, 0)]) es_go = none → ∀ (ct' wr' : Int32) (rk' rn' : Nat → Int32), post 0 (sz, kn, ct', wr', kd, nm, ic, ik, im, br, rk', rn', sk, sn))
    (h1 : ∀ (c' : Nat) (rk' rn' : Nat → Int32), c' ≤ c + 1 → es_Al ((kd p, nm p) :: T) (es_ro rk' rn' c') → post 1 (sz, kn, nI c', 0, kd, nm, ic, ik, im, br, rk', rn', sk, sn)) : wpX_readOn post (sz, kn, nI c, 0, kd, nm, ic, ik, im, br, rk, rn, sk, sn) (nI p) := by
  unfold wpX_readOn
  dsimp only
  rw [nI_clamp (by omega)]
  refine ⟨vp_in_nI hp (by decide), vp_in_nI hp (by decide), es_x_push _ _ c hc (fun e => ?_) (fun c' rk' rn' e => ?_)⟩
  · exact br_f (show ¬ (1 : Int32) = 0 from by decide) (h0 (es_Go_n (Or.inl hA) e) _ _ _ _)
  · have l := es_pu_ln e
    rw [es_ro_ln, es_ro_ln] at l
    obtain ⟨d, rfl⟩ : ∃ d, c' = d + 1 := ⟨c' - 1, by omega⟩
    rcases es_Go_s (hV _).1 (by rw [es_ro_ln]; omega) (Or.inl hA) e with g | g
    · have b := (es_gA_bo g.1).1
      rw [es_ro_bo] at b
      exact br_t rfl (br_t b (h1 _ _ _ l.1 g))
    · have b := g.1
      rw [es_ro_bo] at b
      exact br_t rfl (br_f (fun z => by have b' : rk' 0 = 0 := b; have z' : rk' 0 = 5 := z; rw [b'] at z'; exact absurd z' (by decide)) (h0 g.2 _ _ _ _))
end
/-! what the loops over all ends reckon -/
def es_fo {α : Type} (kd nm : Nat → Int32) (i : Nat) (g : α → Int32 → Nat → α) : Nat → Nat → α → α
  | 0, _, a => a
  | m + 1, q, a => es_fo kd nm i g m (q + 1) (match es_ac (es_tn kd nm i (q + 1)) with | none => a | some v => g a v (i + q + 1))
theorem es_fo_n {α : Type} {kd nm : Nat → Int32} {i m q : Nat} {g : α → Int32 → Nat → α} {a : α} (h : es_ac (es_tn kd nm i (q + 1)) = none) : es_fo kd nm i g (m + 1) q a = es_fo kd nm i g m (q + 1) a := by
  rw [es_fo, h]
theorem es_fo_s {α : Type} {kd nm : Nat → Int32} {i m q : Nat} {g : α → Int32 → Nat → α} {a : α} {v : Int32} (h : es_ac (es_tn kd nm i (q + 1)) = some v) : es_fo kd nm i g (m + 1) q a = es_fo kd nm i g m (q + 1) (g a v (i + q + 1)) := by
  rw [es_fo, h]
theorem es_fo_d {α : Type} {kd nm : Nat → Int32} {i : Nat} {g : α → Int32 → Nat → α} {a : α} : ∀ (m q : Nat), es_rn (es_tn kd nm i q ++ [(5, 0)]) es_go = none → es_fo kd nm i g m q a = a := by
  intro m
  induction m with
  | zero => intro q h; rfl
  | succ m ih =>
    intro q h
    have h' : es_rn (es_tn kd nm i (q + 1) ++ [(5, 0)]) es_go = none := es_dead [(kd (i + q), nm (i + q))] h
    rw [es_fo_n (es_dead_ac h')]
    exact ih (q + 1) h'
def es_gl (_ : Int32) (_ : Int32) (j : Nat) : Int32 := nI j
def es_ge (a : Int32) (_ : Int32) (_ : Nat) : Int32 := a + 1
def es_gb (a : Int32 × Int32) (v : Int32) (_ : Nat) : Int32 × Int32 := (1, if a.1 = 0 then v else if v ≤ a.2 then a.2 else v)
section
variable {sz kn ct wr : Int32} {kd nm ic ik im br rk rn sk sn : Nat → Int32}
theorem es_x_lg0 {post : Int32 → SX → Prop} {n : Nat} {x2 x4 : Int32} (h : post x2 (sz, kn, ct, wr, kd, nm, ic, ik, im, br, rk, rn, sk, sn)) : wX_longest_22 post (n + 1) x2 0 x4 sz kn ct wr kd nm ic ik im br rk rn sk sn := by
  unfold wX_longest_22
  exact br_c (fun _ => h) (fun _ => br_t rfl h)
theorem es_x_lg {post : Int32 → SX → Prop} {i z : Nat} (hz : z ≤ 60) (hV : es_V kd nm) : ∀ (m fuel q c : Nat) (acc : Int32) (rk rn : Nat → Int32), i + q + m = z → m + 1 < fuel → c ≤ q + 1 → es_Al (es_tn kd nm i q) (es_ro rk rn c) →
    (∀ (ct' wr' : Int32) (rk' rn' : Nat → Int32), post (es_fo kd nm i es_gl m q acc) (nI z, kn, ct', wr', kd, nm, ic, ik, im, br, rk', rn', sk, sn)) → wX_longest_22 post fuel acc 1 (nI (i + q)) (nI z) kn (nI c) 0 kd nm ic ik im br rk rn sk sn := by
  intro m
  induction m with
  | zero =>
    intro fuel q c acc rk rn hm hf hc hA h
    obtain ⟨n, rfl⟩ : ∃ n, fuel = n + 1 := ⟨fuel - 1, by omega⟩
    unfold wX_longest_22
    exact br_t (nI_le (by omega) (by omega)) (h _ _ _ _)
  | succ m ih =>
    intro fuel q c acc rk rn hm hf hc hA h
    obtain ⟨n, rfl⟩ : ∃ n, fuel = n + 1 + 1 := ⟨fuel - 2, by omega⟩
    unfold wX_longest_22
    refine br_f (nI_ge (by omega) (by omega)) (br_f (by decide) (es_x_on (by omega) (by omega) hV hA (fun e ct' wr' rk' rn' => ?_) (fun c' rk' rn' hc' hA' => ?_)))
    · refine br_t rfl (nm_e (es_x_lg0 ?_))
      rw [es_fo_d (q := q + 1) m e |> fun t => (es_fo_n (es_dead_ac e)).trans t] at h
      exact h _ _ _ _
    · refine br_f (by decide) (es_x_whole c' (by omega) hA' (fun e => ?_) (fun v X ex lx e => ?_))
      · rw [es_fo_n e] at h
        exact br_t rfl (nm_r (nI_1 _) (ih (n + 1) (q + 1) c' acc rk' rn' (by omega) (by omega) (by omega) hA' h))
      · rw [es_fo_s e] at h
        exact br_f (by decide) (nm_r (nI_1 _) (nm_r (nI_1 _) (ih (n + 1) (q + 1) c' _ rk' rn' (by omega) (by omega) (by omega) hA' h)))
theorem es_x_en0 {post : Int32 → SX → Prop} {n : Nat} {x2 x4 : Int32} (h : post x2 (sz, kn, ct, wr, kd, nm, ic, ik, im, br, rk, rn, sk, sn)) : wX_endings_21 post (n + 1) x2 0 x4 sz kn ct wr kd nm ic ik im br rk rn sk sn := by
  unfold wX_endings_21
  exact br_c (fun _ => h) (fun _ => br_t rfl h)
theorem es_x_en {post : Int32 → SX → Prop} {i z : Nat} (hz : z ≤ 60) (hV : es_V kd nm) : ∀ (m fuel q c : Nat) (acc : Int32) (rk rn : Nat → Int32), i + q + m = z → m + 1 < fuel → c ≤ q + 1 → es_Al (es_tn kd nm i q) (es_ro rk rn c) →
    (∀ (ct' wr' : Int32) (rk' rn' : Nat → Int32), post (es_fo kd nm i es_ge m q acc) (nI z, kn, ct', wr', kd, nm, ic, ik, im, br, rk', rn', sk, sn)) → wX_endings_21 post fuel acc 1 (nI (i + q)) (nI z) kn (nI c) 0 kd nm ic ik im br rk rn sk sn := by
  intro m
  induction m with
  | zero =>
    intro fuel q c acc rk rn hm hf hc hA h
    obtain ⟨n, rfl⟩ : ∃ n, fuel = n + 1 := ⟨fuel - 1, by omega⟩
    unfold wX_endings_21
    exact br_t (nI_le (by omega) (by omega)) (h _ _ _ _)
  | succ m ih =>
    intro fuel q c acc rk rn hm hf hc hA h
    obtain ⟨n, rfl⟩ : ∃ n, fuel = n + 1 + 1 := ⟨fuel - 2, by omega⟩
    unfold wX_endings_21
    refine br_f (nI_ge (by omega) (by omega)) (br_f (by decide) (es_x_on (by omega) (by omega) hV hA (fun e ct' wr' rk' rn' => ?_) (fun c' rk' rn' hc' hA' => ?_)))
    · refine br_t rfl (nm_r (Int32.add_zero _) (nm_e (es_x_en0 ?_)))
      rw [es_fo_d (q := q + 1) m e |> fun t => (es_fo_n (es_dead_ac e)).trans t] at h
      exact h _ _ _ _
    · refine br_f (by decide) (es_x_whole c' (by omega) hA' (fun e => ?_) (fun v X ex lx e => ?_))
      · rw [es_fo_n e] at h
        exact br_t rfl (nm_r (Int32.add_zero _) (nm_r (nI_1 _) (ih (n + 1) (q + 1) c' acc rk' rn' (by omega) (by omega) (by omega) hA' h)))
      · rw [es_fo_s e] at h
        exact br_f (by decide) (nm_e (nm_r (nI_1 _) (ih (n + 1) (q + 1) c' _ rk' rn' (by omega) (by omega) (by omega) hA' h)))
theorem es_x_be0 {post : Int32 → SX → Prop} {n : Nat} {x2 x3 x5 : Int32} (h : post x3 (sz, kn, ct, wr, kd, nm, ic, ik, im, br, rk, rn, sk, sn)) : wX_best_24 post (n + 1) x2 x3 0 x5 sz kn ct wr kd nm ic ik im br rk rn sk sn := by
  unfold wX_best_24
  exact br_c (fun _ => h) (fun _ => br_t rfl h)
theorem es_x_be {post : Int32 → SX → Prop} {i z : Nat} (hz : z ≤ 60) (hV : es_V kd nm) : ∀ (m fuel q c : Nat) (a b : Int32) (rk rn : Nat → Int32), i + q + m = z → m + 1 < fuel → c ≤ q + 1 → es_Al (es_tn kd nm i q) (es_ro rk rn c) →
    (∀ (ct' wr' : Int32) (rk' rn' : Nat → Int32), post (es_fo kd nm i es_gb m q (a, b)).2 (nI z, kn, ct', wr', kd, nm, ic, ik, im, br, rk', rn', sk, sn)) → wX_best_24 post fuel a b 1 (nI (i + q)) (nI z) kn (nI c) 0 kd nm ic ik im br rk rn sk sn := by
  intro m
  induction m with
  | zero =>
    intro fuel q c a b rk rn hm hf hc hA h
    obtain ⟨n, rfl⟩ : ∃ n, fuel = n + 1 := ⟨fuel - 1, by omega⟩
    unfold wX_best_24
    exact br_t (nI_le (by omega) (by omega)) (h _ _ _ _)
  | succ m ih =>
    intro fuel q c a b rk rn hm hf hc hA h
    obtain ⟨n, rfl⟩ : ∃ n, fuel = n + 1 + 1 := ⟨fuel - 2, by omega⟩
    unfold wX_best_24
    refine br_f (nI_ge (by omega) (by omega)) (br_f (by decide) (es_x_on (by omega) (by omega) hV hA (fun e ct' wr' rk' rn' => ?_) (fun c' rk' rn' hc' hA' => ?_)))
    · refine br_t rfl (nm_e (es_x_be0 ?_))
      rw [es_fo_d (q := q + 1) m e |> fun t => (es_fo_n (es_dead_ac e)).trans t] at h
      exact h _ _ _ _
    · refine br_f (by decide) (es_x_whole c' (by omega) hA' (fun e => ?_) (fun v X ex lx e => ?_))
      · rw [es_fo_n e] at h
        exact br_t rfl (nm_r (nI_1 _) (ih (n + 1) (q + 1) c' a b rk' rn' (by omega) (by omega) (by omega) hA' h))
      · rw [es_fo_s e] at h
        refine br_f (by decide) (es_x_wv (by omega) ex (br_c (fun p => ?_) (fun p => br_c (fun r => ?_) (fun r => ?_))))
        · have eg : es_gb (a, b) (es_wv X v) (i + q + 1) = (1, es_wv X v) := by unfold es_gb; rw [if_pos p]
          rw [eg] at h
          exact nm_r (nI_1 _) (ih (n + 1) (q + 1) c' _ _ rk' rn' (by omega) (by omega) (by omega) hA' h)
        · have eg : es_gb (a, b) (es_wv X v) (i + q + 1) = (1, b) := by unfold es_gb; rw [if_neg p, if_pos r]
          rw [eg] at h
          exact nm_r (nI_1 _) (ih (n + 1) (q + 1) c' _ _ rk' rn' (by omega) (by omega) (by omega) hA' h)
        · have eg : es_gb (a, b) (es_wv X v) (i + q + 1) = (1, es_wv X v) := by unfold es_gb; rw [if_neg p, if_neg r]
          rw [eg] at h
          exact nm_r (nI_1 _) (ih (n + 1) (q + 1) c' _ _ rk' rn' (by omega) (by omega) (by omega) hA' h)
end
end
section
/-! Y: reads -/
section
variable {cn : Int32} {kd nm yk yn su mi pr mo be : Nat → Int32}
theorem es_step_n {i q n : Nat} {s : es_S} (hq : q + 1 ≤ n) (h : es_rn (es_tn kd nm i q ++ [(5, 0)]) es_go = some s) (hs : es_st (kd (i + q), nm (i + q)) s = none) : es_ac (es_tn kd nm i n) = none := by
  have h1 : es_rn (es_tn kd nm i (q + 1) ++ [(5, 0)]) es_go = none := by
    rw [es_tn_s, List.cons_append, es_rn_c, h]; exact hs
  rw [show n = (q + 1) + (n - (q + 1)) from by omega, es_tn_ap]
  exact es_dead_ac (es_dead _ h1)
theorem es_step_s {i q : Nat} {s s' : es_S} (h : es_rn (es_tn kd nm i q ++ [(5, 0)]) es_go = some s) (hs : es_st (kd (i + q), nm (i + q)) s = some s') : es_rn (es_tn kd nm i (q + 1) ++ [(5, 0)]) es_go = some s' := by
  rw [es_tn_s, List.cons_append, es_rn_c, h]; exact hs
theorem es_io_ne {k : Int32} (h : es_io k = true) : k ≠ 0 ∧ k ≠ 5 ∧ k ≠ 6 := by
  rcases es_io4 h with rfl | rfl | rfl | rfl <;> decide
theorem es_y_8 {post : Int32 → Prop} {i n : Nat} (hj : i + n ≤ 60) (hV : es_V kd nm) (h0 : es_ac (es_tn kd nm i n) = none → post 0) (h1 : ∀ v, es_ac (es_tn kd nm i n) = some v → post 1) :
    ∀ (m fuel q : Nat) (b : Bool) (w : es_F) (L : List es_F), q + m = n → m < fuel → L.length ≤ q → es_rn (es_tn kd nm i q ++ [(5, 0)]) es_go = some (b, w :: L) →
    wY_reads_8 post (nI (i + n)) cn kd nm yk yn su mi pr mo be fuel (if b = true then 0 else 1) (nI L.length) (nI (i + q)) := by
  intro m
  induction m with
  | zero =>
    intro fuel q b w L hm hf hL hr
    obtain ⟨fu, rfl⟩ : ∃ fu, fuel = fu + 1 := ⟨fuel - 1, by omega⟩
    have e : q = n := by omega
    subst e
    have ea : es_ac (es_tn kd nm i q) = es_an (some (b, w :: L)) := by unfold es_ac; rw [hr]
    unfold wY_reads_8
    refine br_t (nI_le (by omega) (by omega)) ?_
    cases b with
    | false => exact br_f (by decide) (h0 ea)
    | true =>
      refine br_t rfl ?_
      cases L with
      | nil => exact br_t rfl (h1 _ ea)
      | cons g L => exact br_f (nI_ne0 (by simp only [List.length_cons]; omega) (by simp only [List.length_cons] at hL ⊢; omega)) (h0 ea)
  | succ m ih =>
    intro fuel q b w L hm hf hL hr
    obtain ⟨fu, rfl⟩ : ∃ fu, fuel = fu + 1 := ⟨fuel - 1, by omega⟩
    have IH := fun b' w' L' hL' hr' => ih fu (q + 1) b' w' L' (by omega) (by omega) hL' hr'
    have N := fun (hs : es_st (kd (i + q), nm (i + q)) (b, w :: L) = none) => h0 (es_step_n (by omega) hr hs)
    have S := fun (s' : es_S) (hs : es_st (kd (i + q), nm (i + q)) (b, w :: L) = some s') => es_step_s hr hs
    unfold wY_reads_8 wY_reads_34 wY_reads_39 wY_reads_61 wY_reads_90
    rw [nI_clamp (by omega)]
    refine br_f (nI_ge (by omega) (by omega)) ⟨vp_in_nI (by omega) (by decide), nm_e ?_⟩
    have hk := (hV (i + q)).1
    generalize kd (i + q) = k at N S hk
    rcases hk with rfl | rfl | rfl | hk
    · refine br_t rfl ?_
      cases b with
      | true => exact br_f (by decide) (N (by rw [es_st0]; rfl))
      | false =>
        refine br_t rfl (br_f (by decide) (br_f (by decide) (br_f (by decide) (br_t rfl (nm_r (nI_1 _) ?_)))))
        exact IH true _ L (by omega) (S _ (by rw [es_st0]; rfl))
    · refine br_f (by decide) (br_t rfl ?_)
      cases b with
      | true => exact br_f (by decide) (N (by rw [es_st5]; rfl))
      | false =>
        refine br_t rfl (br_f (by decide) (br_t rfl (br_f (by decide) (br_f (by decide) (nm_r (nI_1 _) ?_)))))
        have z := IH false (0, 1, none) (w :: L) (by simp only [List.length_cons]; omega) (S _ (by rw [es_st5]; rfl))
        rw [List.length_cons, ← nI_1] at z
        exact z
    · refine br_f (by decide) (br_f (by decide) ?_)
      cases b with
      | false => exact br_f (by decide) (N (by rw [es_st6]; rfl))
      | true =>
        refine br_t rfl (br_t rfl ?_)
        cases L with
        | nil => exact br_t rfl (N (by rw [es_st6]; rfl))
        | cons g L =>
          simp only [List.length_cons] at hL
          refine br_f (nI_ne0 (by simp only [List.length_cons]; omega) (by simp only [List.length_cons]; omega)) (br_f (by decide) (br_t rfl (br_f (by decide) (br_t rfl (nm_r (nI_1 _) ?_)))))
          have z := IH true _ L (by omega) (S _ (by rw [es_st6]; rfl))
          rw [List.length_cons, nI_pred]
          exact z
    · obtain ⟨n0, n5, n6⟩ := es_io_ne hk
      refine br_f n0 (br_f n5 ?_)
      cases b with
      | false => exact br_f (by decide) (N (by rw [es_stP hk]; rfl))
      | true =>
        refine br_t rfl (br_f n6 (br_f n5 (br_f n6 (br_f n0 (br_f n6 (nm_r (nI_1 _) ?_))))))
        exact IH false _ L (by omega) (S _ (by rw [es_stP hk]; rfl))
theorem es_tn_0 (i : Nat) : es_rn (es_tn kd nm i 0 ++ [(5, 0)]) es_go = some (false, [(0, 1, none)]) := by
  show es_st (5, 0) (false, []) = _
  rw [es_st5]; rfl
theorem es_y_reads {post : Int32 → Prop} {i n : Nat} (hj : i + n ≤ 60) (hV : es_V kd nm) (h0 : es_ac (es_tn kd nm i n) = none → post 0) (h1 : ∀ v, es_ac (es_tn kd nm i n) = some v → post 1) : wpY_reads post (cn, kd, nm, yk, yn, su, mi, pr, mo, be) (nI i) (nI (i + n)) := by
  unfold wpY_reads
  exact ⟨n + 1, es_y_8 hj hV h0 h1 n (n + 1) 0 false (0, 1, none) [] (by omega) (by omega) (by decide) (es_tn_0 i)⟩
/-! Y: valueOf -/
def es_fw (w : es_F) (e : Nat) (su mi pr mo be : Nat → Int32) : Prop := w.1 = su e ∧ w.2.1 = (if mi e = 0 then pr e else - pr e) ∧ w.2.2 = (if be e = 4 then some (mo e) else none)
def es_fh (w : es_F) (e : Nat) (su mi pr mo : Nat → Int32) : Prop := w.1 = su e ∧ w.2.1 = (if mi e = 0 then pr e else - pr e) ∧ w.2.2 = some (mo e)
def es_fs (su mi pr mo be : Nat → Int32) : List es_F → Prop
  | [] => True
  | w :: T => es_fw w T.length su mi pr mo be ∧ es_fs su mi pr mo be T
theorem es_fs_cg {su' mi' pr' mo' be' : Nat → Int32} : ∀ (T : List es_F), (∀ e, e < T.length → su' e = su e ∧ mi' e = mi e ∧ pr' e = pr e ∧ mo' e = mo e ∧ be' e = be e) → es_fs su mi pr mo be T → es_fs su' mi' pr' mo' be' T := by
  intro T
  induction T with
  | nil => intro _ _; trivial
  | cons w T ih =>
    intro h H
    refine ⟨?_, ih (fun e he => h e (by simp only [List.length_cons]; omega)) H.2⟩
    obtain ⟨a1, a2, a3, a4, a5⟩ := h T.length (by simp only [List.length_cons]; omega)
    unfold es_fw
    rw [a1, a2, a3, a4, a5]
    exact H.1
theorem es_y_start {post : SY → Prop} {d : Nat} (hd : d < 62) (h : post (cn, kd, nm, yk, yn, upd su d 0, upd mi d 0, upd pr d 1, upd mo d 0, upd be d 0)) : wpY_start post (cn, kd, nm, yk, yn, su, mi, pr, mo, be) (nI d) := by
  unfold wpY_start
  dsimp only
  rw [nI_clamp (by omega)]
  have v := vp_in_nI (n := d) (N := 62) hd (by decide)
  exact ⟨v, nm_e ⟨v, nm_r rfl ⟨v, nm_e ⟨v, nm_e ⟨v, nm_e h⟩⟩⟩⟩⟩
theorem es_y_take {post : SY → Prop} {d : Nat} {v : Int32} (hd : d < 62) (h : post (cn, kd, nm, yk, yn, su, mi, pr, upd mo d (if be d = 4 then es_mx (mo d) v else v), be)) : wpY_take post (cn, kd, nm, yk, yn, su, mi, pr, mo, be) (nI d) v := by
  unfold wpY_take
  dsimp only
  rw [nI_clamp (by omega)]
  have vi := vp_in_nI (n := d) (N := 62) hd (by decide)
  refine ⟨vi, br_c (fun a => ⟨vi, ?_⟩) (fun a => ⟨vi, nm_e ?_⟩)⟩
  · rw [if_pos a] at h
    unfold es_mx at h
    refine br_c (fun b => ⟨vi, nm_e ?_⟩) (fun b => ⟨vi, vi, nm_e ?_⟩)
    · rw [if_pos b] at h; exact h
    · rw [if_neg b] at h; exact h
  · rw [if_neg a] at h; exact h
theorem es_y_eprod {post : SY → Prop} {d : Nat} (hd : d < 62) (h : post (cn, kd, nm, yk, yn, su, mi, upd pr d (pr d * mo d), mo, be)) : wpY_endProduct post (cn, kd, nm, yk, yn, su, mi, pr, mo, be) (nI d) := by
  unfold wpY_endProduct
  dsimp only
  rw [nI_clamp (by omega)]
  have vi := vp_in_nI (n := d) (N := 62) hd (by decide)
  exact ⟨vi, vi, vi, nm_e h⟩
theorem es_y_esum {post : SY → Prop} {d : Nat} {w : es_F} (hd : d < 62) (hw : es_fh w d su mi pr mo) (h : ∀ (su' pr' : Nat → Int32), su' d = es_vl w → pr' d = 1 → (∀ e, e ≠ d → su' e = su e ∧ pr' e = pr e) → post (cn, kd, nm, yk, yn, su', mi, pr', mo, be)) : wpY_endSum post (cn, kd, nm, yk, yn, su, mi, pr, mo, be) (nI d) := by
  unfold wpY_endSum
  refine es_y_eprod hd ?_
  dsimp only
  rw [nI_clamp (by omega), pk_us]
  have vi := vp_in_nI (n := d) (N := 62) hd (by decide)
  obtain ⟨S, Q, m⟩ := w
  obtain ⟨h1, h2, h3⟩ := hw
  have h1' : S = su d := h1
  have h2' : Q = (if mi d = 0 then pr d else - pr d) := h2
  have h3' : m = some (mo d) := h3
  subst h1' h3'
  refine ⟨vi, br_c (fun a => ⟨vi, vi, vi, nm_e ⟨vi, nm_e (h _ _ ?_ pk_us fun e he => ⟨pk_un he, by rw [pk_un he, pk_un he]⟩)⟩⟩) (fun a => ⟨vi, vi, vi, nm_e ⟨vi, nm_e (h _ _ ?_ pk_us fun e he => ⟨pk_un he, by rw [pk_un he, pk_un he]⟩)⟩⟩)⟩
  · rw [pk_us, h2', if_pos a]; rfl
  · rw [pk_us, h2', if_neg a]
    show su d - pr d * mo d = su d + - pr d * mo d
    grind
end
end
section
/-! Y: the value of a part; the loops over all ends -/
section
variable {cn : Int32} {kd nm yk yn su mi pr mo be : Nat → Int32}
theorem es_fw_tk {w : es_F} {d : Nat} {v : Int32} (hw : es_fw w d su mi pr mo be) : es_fh (es_tk w v) d su mi pr (upd mo d (if be d = 4 then es_mx (mo d) v else v)) := by
  obtain ⟨S, Q, m⟩ := w
  obtain ⟨h1, h2, h3⟩ := hw
  refine ⟨h1, h2, ?_⟩
  have h3' : m = (if be d = 4 then some (mo d) else none) := h3
  rw [pk_us]
  by_cases a : be d = 4
  · rw [if_pos a] at h3' ⊢; subst h3'; rfl
  · rw [if_neg a] at h3' ⊢; subst h3'; rfl
/-- the frames of the reference's arrays -/
def es_FR (b : Bool) (w : es_F) (L : List es_F) (su mi pr mo be : Nat → Int32) : Prop :=
  (b = true → es_fh w L.length su mi pr mo) ∧ (b = false → es_fw w L.length su mi pr mo be) ∧ es_fs su mi pr mo be L
theorem es_y_106 {post : Int32 → SY → Prop} {J10 : Int32 → Int32 → Int32 → (Nat → Int32) → (Nat → Int32) → (Nat → Int32) → (Nat → Int32) → (Nat → Int32) → (Nat → Int32) → (Nat → Int32) → (Nat → Int32) → (Nat → Int32) → Prop} {x2 k : Int32} {p : Nat} {w : es_F} {L : List es_F}
    (hL : L.length < 62) (hF : es_FR true w L su mi pr mo be) (hk : k = 1 ∨ k = 2 ∨ k = 4)
    (h : ∀ (su' mi' pr' mo' be' : Nat → Int32), es_FR false (es_os k w) L su' mi' pr' mo' be' → J10 (nI L.length) (nI (p + 1)) cn kd nm yk yn su' mi' pr' mo' be') :
    wY_valueOf_106 post J10 x2 (nI L.length) (nI p) k cn kd nm yk yn su mi pr mo be := by
  unfold wY_valueOf_106 wY_valueOf_133
  have vi := vp_in_nI (n := L.length) (N := 62) hL (by decide)
  obtain ⟨f1, _, f3⟩ := hF
  have g := f1 rfl
  rcases hk with rfl | rfl | rfl
  · refine br_f (by decide) (es_y_esum hL g fun su' pr' a1 a2 a3 => br_f (by decide) ?_)
    rw [nI_clamp (by omega)]
    refine ⟨vi, nm_r rfl ⟨vi, nm_e (nm_r (nI_1 p) (h _ _ _ _ _ ⟨fun e => absurd e (by decide), fun _ => ?_, ?_⟩))⟩⟩
    · rw [es_os1]
      refine ⟨a1.symm, ?_, ?_⟩
      · rw [pk_us]; show 1 = if (0 : Int32) = 0 then pr' L.length else - pr' L.length; rw [if_pos rfl, a2]
      · rw [pk_us]; exact (if_neg (by decide)).symm
    · exact es_fs_cg L (fun e he => ⟨(a3 e (by omega)).1, pk_un (by omega), (a3 e (by omega)).2, rfl, pk_un (by omega)⟩) f3
  · refine br_f (by decide) (es_y_esum hL g fun su' pr' a1 a2 a3 => br_t rfl ?_)
    rw [nI_clamp (by omega)]
    refine ⟨vi, nm_r (e' := upd mi L.length 1) rfl ⟨vi, nm_e (nm_r (nI_1 p) (h _ _ _ _ _ ⟨fun e => absurd e (by decide), fun _ => ?_, ?_⟩))⟩⟩
    · rw [es_os2]
      refine ⟨a1.symm, ?_, ?_⟩
      · rw [pk_us]; show -1 = if (1 : Int32) = 0 then pr' L.length else - pr' L.length; rw [if_neg (by decide), a2]
      · rw [pk_us]; exact (if_neg (by decide)).symm
    · exact es_fs_cg L (fun e he => ⟨(a3 e (by omega)).1, pk_un (by omega), (a3 e (by omega)).2, rfl, pk_un (by omega)⟩) f3
  · refine br_t (by decide) ?_
    rw [nI_clamp (by omega)]
    refine ⟨vi, nm_e (nm_r (nI_1 p) (h _ _ _ _ _ ⟨fun e => absurd e (by decide), fun _ => ?_, ?_⟩))⟩
    · rw [es_os4]
      refine ⟨g.1, g.2.1, ?_⟩
      rw [pk_us, if_pos rfl]; exact g.2.2
    · exact es_fs_cg L (fun e he => ⟨rfl, rfl, rfl, rfl, pk_un (by omega)⟩) f3
/-- TIMES -/
theorem es_y_x3 {post : Int32 → SY → Prop} {J10 : Int32 → Int32 → Int32 → (Nat → Int32) → (Nat → Int32) → (Nat → Int32) → (Nat → Int32) → (Nat → Int32) → (Nat → Int32) → (Nat → Int32) → (Nat → Int32) → (Nat → Int32) → Prop} {x2 : Int32} {p : Nat} {w : es_F} {L : List es_F}
    (hL : L.length < 62) (hF : es_FR true w L su mi pr mo be)
    (h : ∀ (su' mi' pr' mo' be' : Nat → Int32), es_FR false (es_os 3 w) L su' mi' pr' mo' be' → J10 (nI L.length) (nI (p + 1)) cn kd nm yk yn su' mi' pr' mo' be') :
    wY_valueOf_106 post J10 x2 (nI L.length) (nI p) 3 cn kd nm yk yn su mi (upd pr L.length (pr L.length * mo L.length)) mo be := by
  unfold wY_valueOf_106
  have vi := vp_in_nI (n := L.length) (N := 62) hL (by decide)
  obtain ⟨f1, _, f3⟩ := hF
  obtain ⟨g1, g2, g3⟩ := f1 rfl
  refine br_t (by decide) ?_
  rw [nI_clamp (by omega)]
  refine ⟨vi, nm_e (nm_r (nI_1 p) (h _ _ _ _ _ ⟨fun e => absurd e (by decide), fun _ => ?_, ?_⟩))⟩
  · rw [es_os3]
    refine ⟨g1, ?_, ?_⟩
    · show w.2.1 * w.2.2.getD 0 = _
      rw [g2, g3, pk_us]
      show (if mi L.length = 0 then pr L.length else - pr L.length) * mo L.length = _
      by_cases a : mi L.length = 0
      · rw [if_pos a, if_pos a]
      · rw [if_neg a, if_neg a]; grind
    · rw [pk_us]; exact (if_neg (by decide)).symm
  · exact es_fs_cg L (fun e he => ⟨rfl, rfl, pk_un (by omega), rfl, pk_un (by omega)⟩) f3
theorem es_y_10 {post : Int32 → SY → Prop} {i n : Nat} {v : Int32} (hj : i + n ≤ 60) (hV : es_V kd nm) (hv : es_ac (es_tn kd nm i n) = some v) (h : ∀ (su' mi' pr' mo' be' : Nat → Int32), post v (cn, kd, nm, yk, yn, su', mi', pr', mo', be')) :
    ∀ (m fuel q : Nat) (b : Bool) (w : es_F) (L : List es_F) (su mi pr mo be : Nat → Int32), q + m = n → m < fuel → L.length ≤ q → es_rn (es_tn kd nm i q ++ [(5, 0)]) es_go = some (b, w :: L) → es_FR b w L su mi pr mo be →
    wY_valueOf_10 post (nI (i + n)) fuel (nI L.length) (nI (i + q)) cn kd nm yk yn su mi pr mo be := by
  intro m
  induction m with
  | zero =>
    intro fuel q b w L su mi pr mo be hm hf hL hr hF
    obtain ⟨fu, rfl⟩ : ∃ fu, fuel = fu + 1 := ⟨fuel - 1, by omega⟩
    have e : q = n := by omega
    subst e
    have ea : es_an (some (b, w :: L)) = some v := by rw [← hr]; exact hv
    unfold wY_valueOf_10
    refine br_t (nI_le (by omega) (by omega)) ?_
    cases b with
    | false => cases ea
    | true =>
      cases L with
      | cons g L => cases ea
      | nil =>
        injection ea with ea
        refine es_y_esum (d := 0) (w := w) (by omega) (hF.1 rfl) ?_
        intro su' pr' a1 a2 a3
        show post (su' 0) _
        rw [a1, ea]
        exact h _ _ _ _ _
  | succ m ih =>
    intro fuel q b w L su mi pr mo be hm hf hL hr hF
    obtain ⟨fu, rfl⟩ : ∃ fu, fuel = fu + 1 := ⟨fuel - 1, by omega⟩
    have IH := fun b' w' L' su' mi' pr' mo' be' hL' hr' hF' => ih fu (q + 1) b' w' L' su' mi' pr' mo' be' (by omega) (by omega) hL' hr' hF'
    have N : es_st (kd (i + q), nm (i + q)) (b, w :: L) ≠ none := fun hs => by rw [es_step_n (n := n) (by omega) hr hs] at hv; cases hv
    have S := fun (s' : es_S) (hs : es_st (kd (i + q), nm (i + q)) (b, w :: L) = some s') => es_step_s hr hs
    have hk := (hV (i + q)).1
    unfold wY_valueOf_10
    rw [nI_clamp (by omega)]
    refine br_f (nI_ge (by omega) (by omega)) ⟨vp_in_nI (by omega) (by decide), nm_e ?_⟩
    generalize kd (i + q) = k at N S hk
    have vi := vp_in_nI (n := L.length) (N := 62) (by omega) (by decide)
    rcases hk with rfl | rfl | rfl | hk
    · refine br_t rfl ⟨vp_in_nI (by omega) (by decide), ?_⟩
      cases b with
      | true => exact absurd (by rw [es_st0]; rfl) N
      | false =>
        refine es_y_take (by omega) (nm_r (nI_1 _) ?_)
        refine IH true (es_tk w (nm (i + q))) L _ _ _ _ _ (by omega) (S _ (by rw [es_st0]; rfl)) ⟨fun _ => es_fw_tk (hF.2.1 rfl), fun e => absurd e (by decide), ?_⟩
        exact es_fs_cg L (fun e he => ⟨rfl, rfl, rfl, pk_un (by omega), rfl⟩) hF.2.2
    · refine br_f (by decide) (br_t rfl ?_)
      cases b with
      | true => exact absurd (by rw [es_st5]; rfl) N
      | false =>
        refine nm_r (nI_1 _) (es_y_start (by omega) (nm_r (nI_1 _) ?_))
        have z := IH false (0, 1, none) (w :: L) (upd su (L.length + 1) 0) (upd mi (L.length + 1) 0) (upd pr (L.length + 1) 1) (upd mo (L.length + 1) 0) (upd be (L.length + 1) 0) (by simp only [List.length_cons]; omega) (S _ (by rw [es_st5]; rfl))
        refine z ⟨fun e => absurd e (by decide), fun _ => ?_, ?_⟩
        · refine ⟨pk_us.symm, ?_, ?_⟩
          · show 1 = _
            rw [List.length_cons, pk_us, pk_us]; rfl
          · show none = _
            rw [List.length_cons, pk_us]; exact (if_neg (by decide)).symm
        · refine es_fs_cg (w :: L) (fun e he => ?_) ⟨hF.2.1 rfl, hF.2.2⟩
          simp only [List.length_cons] at he
          exact ⟨pk_un (by omega), pk_un (by omega), pk_un (by omega), pk_un (by omega), pk_un (by omega)⟩
    · refine br_f (by decide) (br_f (by decide) (br_t rfl ?_))
      cases b with
      | false => exact absurd (by rw [es_st6]; rfl) N
      | true =>
        cases L with
        | nil => exact absurd (by rw [es_st6]; rfl) N
        | cons g L =>
          simp only [List.length_cons] at hL vi
          have hF1 := hF.1 rfl
          have hF2 := hF.2.2
          refine es_y_esum (w := w) (by simp only [List.length_cons]; omega) hF1 ?_
          intro su' pr' a1 a2 a3
          simp only [List.length_cons] at a1 a2 a3
          have e1 : nI (L.length + 1) + (-1) = nI L.length := pk_m1 _
          simp only [List.length_cons]
          rw [nI_clamp (by omega), a1, e1]
          refine ⟨vi, nm_e (nm_e (es_y_take (by omega) (nm_r (nI_1 _) ?_)))⟩
          refine IH true (es_tk g (es_vl w)) L _ _ _ _ _ (by omega) (S _ (by rw [es_st6]; rfl)) ⟨fun _ => es_fw_tk ?_, fun e => absurd e (by decide), ?_⟩
          · have q1 := hF2.1
            show es_fw g L.length su' mi pr' mo be
            unfold es_fw at q1 ⊢
            rw [(a3 L.length (by omega)).1, (a3 L.length (by omega)).2]
            exact q1
          · exact es_fs_cg L (fun e he => ⟨(a3 e (by omega)).1, rfl, (a3 e (by omega)).2, pk_un (by omega), rfl⟩) hF2.2
    · obtain ⟨n0, n5, n6⟩ := es_io_ne hk
      refine br_f n0 (br_f n5 (br_f n6 ?_))
      cases b with
      | false => exact absurd (by rw [es_stP hk]; rfl) N
      | true =>
        have Z := fun su' mi' pr' mo' be' hF' => IH false (es_os k w) L su' mi' pr' mo' be' (by omega) (S _ (by rw [es_stP hk]; rfl)) hF'
        refine br_c (fun a => ?_) (fun a => ?_)
        · subst a
          exact es_y_eprod (by omega) (es_y_x3 (by omega) hF Z)
        · refine es_y_106 (by omega) hF ?_ Z
          rcases es_io4 hk with e | e | e | e
          · exact Or.inl e
          · exact Or.inr (Or.inl e)
          · exact absurd e a
          · exact Or.inr (Or.inr e)
theorem es_y_val {post : Int32 → SY → Prop} {i n : Nat} {v : Int32} (hj : i + n ≤ 60) (hV : es_V kd nm) (hv : es_ac (es_tn kd nm i n) = some v) (h : ∀ (su' mi' pr' mo' be' : Nat → Int32), post v (cn, kd, nm, yk, yn, su', mi', pr', mo', be')) : wpY_valueOf post (cn, kd, nm, yk, yn, su, mi, pr, mo, be) (nI i) (nI (i + n)) := by
  unfold wpY_valueOf
  refine es_y_start (d := 0) (by omega) ⟨n + 1, ?_⟩
  refine es_y_10 hj hV hv h n (n + 1) 0 false (0, 1, none) [] _ _ _ _ _ (by omega) (by omega) (by decide) (es_tn_0 i) ⟨fun e => absurd e (by decide), fun _ => ?_, trivial⟩
  refine ⟨pk_us.symm, ?_, ?_⟩
  · show 1 = _
    rw [List.length_nil, pk_us, pk_us]; rfl
  · show none = _
    rw [List.length_nil, pk_us]; exact (if_neg (by decide)).symm
theorem es_y_lg {post : Int32 → Prop} {i z : Nat} (hz : z ≤ 60) (hV : es_V kd nm) : ∀ (m fuel q : Nat) (acc : Int32), i + q + m = z → m < fuel → post (es_fo kd nm i es_gl m q acc) → wY_longest_17 post (nI i) (nI z) kd nm yk yn su mi pr mo be fuel acc (nI (i + q + 1)) := by
  intro m
  induction m with
  | zero =>
    intro fuel q acc hm hf h
    obtain ⟨n, rfl⟩ : ∃ n, fuel = n + 1 := ⟨fuel - 1, by omega⟩
    unfold wY_longest_17
    exact br_t (nI_lt (by omega) (by omega)) h
  | succ m ih =>
    intro fuel q acc hm hf h
    obtain ⟨n, rfl⟩ : ∃ n, fuel = n + 1 := ⟨fuel - 1, by omega⟩
    unfold wY_longest_17
    refine br_f (nI_nlt (by omega) (by omega)) (es_y_reads (i := i) (n := q + 1) (by omega) hV (fun e => ?_) (fun v e => ?_))
    · rw [es_fo_n e] at h
      exact br_t rfl (nm_r (nI_1 _) (ih n (q + 1) acc (by omega) (by omega) h))
    · rw [es_fo_s e] at h
      exact br_f (by decide) (nm_r (nI_1 _) (ih n (q + 1) _ (by omega) (by omega) h))
theorem es_y_en {post : Int32 → Prop} {i z : Nat} (hz : z ≤ 60) (hV : es_V kd nm) : ∀ (m fuel q : Nat) (acc : Int32), i + q + m = z → m < fuel → post (es_fo kd nm i es_ge m q acc) → wY_endings_16 post (nI i) (nI z) kd nm yk yn su mi pr mo be fuel acc (nI (i + q + 1)) := by
  intro m
  induction m with
  | zero =>
    intro fuel q acc hm hf h
    obtain ⟨n, rfl⟩ : ∃ n, fuel = n + 1 := ⟨fuel - 1, by omega⟩
    unfold wY_endings_16
    exact br_t (nI_lt (by omega) (by omega)) h
  | succ m ih =>
    intro fuel q acc hm hf h
    obtain ⟨n, rfl⟩ : ∃ n, fuel = n + 1 := ⟨fuel - 1, by omega⟩
    unfold wY_endings_16
    refine br_f (nI_nlt (by omega) (by omega)) (es_y_reads (i := i) (n := q + 1) (by omega) hV (fun e => ?_) (fun v e => ?_))
    · rw [es_fo_n e] at h
      exact br_t rfl (nm_r (nI_1 _) (ih n (q + 1) acc (by omega) (by omega) h))
    · rw [es_fo_s e] at h
      exact br_f (by decide) (nm_e (nm_r (nI_1 _) (ih n (q + 1) _ (by omega) (by omega) h)))
theorem es_y_be {post : Int32 → SY → Prop} {i z : Nat} (hz : z ≤ 60) (hi : i < z) (hV : es_V kd nm) : ∀ (m fuel q : Nat) (a b : Int32) (su mi pr mo be : Nat → Int32), i + q + m = z → m < fuel →
    (∀ (su' mi' pr' mo' be' : Nat → Int32), post (es_fo kd nm i es_gb m q (a, b)).2 (nI z, kd, nm, yk, yn, su', mi', pr', mo', be')) → wY_best_9 post (nI i) fuel a b (nI (i + q + 1)) (nI z) kd nm yk yn su mi pr mo be := by
  intro m
  induction m with
  | zero =>
    intro fuel q a b su mi pr mo be hm hf h
    obtain ⟨n, rfl⟩ : ∃ n, fuel = n + 1 := ⟨fuel - 1, by omega⟩
    unfold wY_best_9
    exact br_t (nI_lt (by omega) (by omega)) (h _ _ _ _ _)
  | succ m ih =>
    intro fuel q a b su mi pr mo be hm hf h
    obtain ⟨n, rfl⟩ : ∃ n, fuel = n + 1 := ⟨fuel - 1, by omega⟩
    unfold wY_best_9 wpY_isPlace
    refine br_f (nI_nlt (by omega) (by omega)) (br_f (nI_pos (by omega)) (br_f (nI_ge (by omega) (by omega)) (br_f (by decide) ?_)))
    refine es_y_reads (i := i) (n := q + 1) (by omega) hV (fun e => ?_) (fun v e => ?_)
    · rw [es_fo_n e] at h
      exact br_t rfl (nm_r (nI_1 _) (ih n (q + 1) a b _ _ _ _ _ (by omega) (by omega) h))
    · rw [es_fo_s e] at h
      refine br_f (by decide) (es_y_val (i := i) (n := q + 1) (by omega) hV e ?_)
      intro su' mi' pr' mo' be'
      refine br_c (fun p => ?_) (fun p => br_c (fun r => ?_) (fun r => ?_))
      · have eg : es_gb (a, b) v (i + q + 1) = (1, v) := by unfold es_gb; rw [if_pos p]
        rw [eg] at h
        exact nm_r (nI_1 _) (ih n (q + 1) _ _ _ _ _ _ _ (by omega) (by omega) h)
      · have eg : es_gb (a, b) v (i + q + 1) = (1, b) := by unfold es_gb; rw [if_neg p, if_pos r]
        rw [eg] at h
        exact nm_r (nI_1 _) (ih n (q + 1) _ _ _ _ _ _ _ (by omega) (by omega) h)
      · have eg : es_gb (a, b) v (i + q + 1) = (1, v) := by unfold es_gb; rw [if_neg p, if_neg r]
        rw [eg] at h
        exact nm_r (nI_1 _) (ih n (q + 1) _ _ _ _ _ _ _ (by omega) (by omega) h)
end
end
section
/-! the relation, and the edits' loops in lockstep -/
def es_K (z k : Nat) (kd nm ic ik im br : Nat → Int32) : Prop := z ≤ 60 ∧ 8 * k ≤ z ∧ es_V kd nm ∧ ∀ q, q < k → es_SI kd nm ic ik im br q
/-- the same text on both sides; a known stretch means what its tokens mean -/
def i_Rel (_ : Nat) (u : SX) (v : SY) : Prop := match u, v with
  | (sz, kn, _, _, kd, nm, ic, ik, im, br, _, _, _, _), (cn, kd', nm', _, _, _, _, _, _, _) => ∃ z k : Nat, sz = nI z ∧ kn = nI k ∧ cn = nI z ∧ kd' = kd ∧ nm' = nm ∧ es_K z k kd nm ic ik im br
section
variable {kn ct wr : Int32} {kd nm ic ik im br rk rn sk sn : Nat → Int32} {yk yn su mi pr mo be : Nat → Int32}
theorem es_rel {t z k : Nat} (h : es_K z k kd nm ic ik im br) : i_Rel t (nI z, nI k, ct, wr, kd, nm, ic, ik, im, br, rk, rn, sk, sn) (nI z, kd, nm, yk, yn, su, mi, pr, mo, be) := ⟨z, k, rfl, rfl, rfl, rfl, rfl, h⟩
theorem es_el {t : Nat} {u : SX} {v : SY} {P : SX → SY → Prop}
    (h : ∀ (z k : Nat) (ct wr : Int32) (kd nm ic ik im br rk rn sk sn yk yn su mi pr mo be : Nat → Int32), es_K z k kd nm ic ik im br → P (nI z, nI k, ct, wr, kd, nm, ic, ik, im, br, rk, rn, sk, sn) (nI z, kd, nm, yk, yn, su, mi, pr, mo, be)) (I : i_Rel t u v) : P u v := by
  obtain ⟨sz, kn, ct, wr, kd, nm, ic, ik, im, br, rk, rn, sk, sn⟩ := u
  obtain ⟨cn, kd', nm', yk, yn, su, mi, pr, mo, be⟩ := v
  obtain ⟨z, k, e1, e2, e3, e4, e5, hK⟩ := I
  subst e1 e2 e3 e4 e5
  exact h z k ct wr _ _ ic ik im br rk rn sk sn yk yn su mi pr mo be hK
theorem es_K_up {z k z' k' p : Nat} {kd' nm' : Nat → Int32} (h : es_K z k kd nm ic ik im br) (hV : es_V kd' nm') (hp : ∀ j, j < p → kd' j = kd j ∧ nm' j = nm j) (hz : z' ≤ 60) (hpz : p ≤ z') (hk : k' ≤ k) (hk8 : 8 * k' ≤ p) : es_K z' k' kd' nm' ic ik im br :=
  ⟨hz, by omega, hV, fun q hq => es_SI_tk (h.2.2.2 q (by omega)) (fun j hj => hp j (by omega))⟩
theorem es_V_u {a x y : _} {j : Nat} (hV : es_V kd nm) (hx : es_ok x) (hy : x = 0 ∨ y = 0) (ha : a = j) : es_V (upd kd a x) (upd nm j y) := by
  subst ha
  intro i
  by_cases e : i = a
  · subst e
    rw [pk_us, pk_us]
    exact ⟨hx, hy⟩
  · rw [pk_un e, pk_un e]
    exact hV i
theorem es_x_cf {post : SX → Prop} {sz : Int32} {k p : Nat} (hp : p ≤ 60) (hk : k ≤ 60) (h : ∀ k' : Nat, k' ≤ k → 8 * k' ≤ p → post (sz, nI k', ct, wr, kd, nm, ic, ik, im, br, rk, rn, sk, sn)) : wpX_changedFrom post (sz, nI k, ct, wr, kd, nm, ic, ik, im, br, rk, rn, sk, sn) (nI p) := by
  unfold wpX_changedFrom
  have e : nI p / 8 = nI (p / 8) := pk_div (a := p) (d := 8) (by omega) (by decide) (by decide)
  refine ⟨by decide, nm_r e (pk_le k (p / 8) (fun a => h k (by omega) (by omega)) (fun a => h (p / 8) (by omega) (by omega)))⟩
/-! parts and places -/
def es_nP (z : Nat) (a b : Int32) : Prop := a < 0 ∨ nI z < b ∨ b ≤ a
def es_nL (z : Nat) (a : Int32) : Prop := a < 0 ∨ nI z ≤ a
theorem es_nP_n {z : Nat} {a b : Int32} (hz : z ≤ 60) (h : ¬ es_nP z a b) : ∃ i n, a = nI i ∧ b = nI (i + n) ∧ 1 ≤ n ∧ i + n ≤ z := by
  have h1 : ¬ a < 0 := fun e => h (Or.inl e)
  have h2 : ¬ nI z < b := fun e => h (Or.inr (Or.inl e))
  have h3 : ¬ b ≤ a := fun e => h (Or.inr (Or.inr e))
  obtain ⟨i, hi, rfl⟩ := nI_of h1
  have h4 : ¬ b < 0 := fun e => h3 (by
    have := nI_pos' hi
    rw [Int32.lt_iff_toInt_lt] at e
    rw [Int32.le_iff_toInt_le] at this ⊢
    omega)
  obtain ⟨j, hj, rfl⟩ := nI_of h4
  rw [nI_ltI (by omega) hj] at h2
  rw [nI_leI hj hi] at h3
  exact ⟨i, j - i, rfl, congrArg nI (by omega), by omega, by omega⟩
theorem es_nL_n {z : Nat} {a : Int32} (hz : z ≤ 60) (h : ¬ es_nL z a) : ∃ i, a = nI i ∧ i < z := by
  have h1 : ¬ a < 0 := fun e => h (Or.inl e)
  have h2 : ¬ nI z ≤ a := fun e => h (Or.inr e)
  obtain ⟨i, hi, rfl⟩ := nI_of h1
  rw [nI_leI (by omega) hi] at h2
  exact ⟨i, rfl, by omega⟩
theorem es_x_part {post : Int32 → Prop} {z : Nat} {a b : Int32} (h0 : es_nP z a b → post 0) (h1 : ¬ es_nP z a b → post 1) : wpX_isPart post (nI z, kn, ct, wr, kd, nm, ic, ik, im, br, rk, rn, sk, sn) a b := by
  unfold wpX_isPart
  exact br_c (fun p => h0 (Or.inl p)) (fun p => br_c (fun q => h0 (Or.inr (Or.inl q))) (fun q => br_c (fun r => h0 (Or.inr (Or.inr r))) (fun r => h1 fun e => by rcases e with e | e | e; exact p e; exact q e; exact r e)))
theorem es_y_part {post : Int32 → Prop} {z : Nat} {a b : Int32} (h0 : es_nP z a b → post 0) (h1 : ¬ es_nP z a b → post 1) : wpY_isPart post (nI z, kd, nm, yk, yn, su, mi, pr, mo, be) a b := by
  unfold wpY_isPart
  exact br_c (fun p => h0 (Or.inl p)) (fun p => br_c (fun q => h0 (Or.inr (Or.inl q))) (fun q => br_c (fun r => h0 (Or.inr (Or.inr r))) (fun r => h1 fun e => by rcases e with e | e | e; exact p e; exact q e; exact r e)))
theorem es_x_plc {post : Int32 → Prop} {z : Nat} {a : Int32} (h0 : es_nL z a → post 0) (h1 : ¬ es_nL z a → post 1) : wpX_isPlace post (nI z, kn, ct, wr, kd, nm, ic, ik, im, br, rk, rn, sk, sn) a := by
  unfold wpX_isPlace
  exact br_c (fun p => h0 (Or.inl p)) (fun p => br_c (fun q => h0 (Or.inr q)) (fun q => h1 fun e => by rcases e with e | e; exact p e; exact q e))
theorem es_y_plc {post : Int32 → Prop} {z : Nat} {a : Int32} (h0 : es_nL z a → post 0) (h1 : ¬ es_nL z a → post 1) : wpY_isPlace post (nI z, kd, nm, yk, yn, su, mi, pr, mo, be) a := by
  unfold wpY_isPlace
  exact br_c (fun p => h0 (Or.inl p)) (fun p => br_c (fun q => h0 (Or.inr q)) (fun q => h1 fun e => by rcases e with e | e; exact p e; exact q e))
/-! moving up -/
theorem es_m1 (x : Int32) : x + (-1) = x - 1 := by grind
theorem es_pl {p : Nat} (h : p ≤ 60) : nI p - 1 < nI p := by
  cases p with
  | zero => decide
  | succ p =>
    rw [show nI (p + 1) - 1 = nI p from nI_pred p]
    exact nI_lt (by omega) (by omega)
theorem es_up {p w z : Nat} (hw : 1 ≤ w) (hz : z + w ≤ 60) : ∀ (m : Nat) (kd nm : Nat → Int32), p + m ≤ z → ∃ kd' nm' : Nat → Int32, (es_V kd nm → es_V kd' nm') ∧ (∀ j, j < p → kd' j = kd j ∧ nm' j = nm j) ∧
    (∀ (post : SX → Prop) (kn ct wr : Int32) (ic ik im br rk rn sk sn : Nat → Int32) (fuel : Nat), m < fuel → post (nI (z + w), kn, ct, wr, kd', nm', ic, ik, im, br, rk, rn, sk, sn) → wX_shift_11 post (nI p) (nI w) (nI z) kn ct wr fuel (nI (p + m) - 1) kd nm ic ik im br rk rn sk sn) ∧
    (∀ (post : SY → Prop) (yk yn su mi pr mo be : Nat → Int32) (fuel : Nat), m < fuel → post (nI (z + w), kd', nm', yk, yn, su, mi, pr, mo, be) → wY_makeRoom_7 post (nI p) (nI w) (nI z) fuel (nI (p + m) - 1) kd nm yk yn su mi pr mo be) := by
  intro m
  induction m with
  | zero =>
    intro kd nm hm
    refine ⟨kd, nm, fun h => h, fun j _ => ⟨rfl, rfl⟩, ?_, ?_⟩
    · intro post kn ct wr ic ik im br rk rn sk sn fuel hf h
      obtain ⟨n, rfl⟩ : ∃ n, fuel = n + 1 := ⟨fuel - 1, by omega⟩
      unfold wX_shift_11
      exact br_t (es_pl (by omega)) (nm_r (nI_add z w) h)
    · intro post yk yn su mi pr mo be fuel hf h
      obtain ⟨n, rfl⟩ : ∃ n, fuel = n + 1 := ⟨fuel - 1, by omega⟩
      unfold wY_makeRoom_7
      exact br_t (es_pl (by omega)) (nm_r (nI_add z w) h)
  | succ m ih =>
    intro kd nm hm
    obtain ⟨kd', nm', hV, hp, hX, hY⟩ := ih (upd kd (p + m + w) (kd (p + m))) (upd nm (p + m + w) (nm (p + m))) (by omega)
    have e1 : nI (p + (m + 1)) - 1 = nI (p + m) := nI_pred (p + m)
    refine ⟨kd', nm', fun h => hV (es_V_u h (h _).1 (h _).2 rfl), fun j hj => ?_, ?_, ?_⟩
    · rw [(hp j hj).1, (hp j hj).2, pk_un (by omega), pk_un (by omega)]
      exact ⟨rfl, rfl⟩
    · intro post kn ct wr ic ik im br rk rn sk sn fuel hf h
      obtain ⟨n, rfl⟩ : ∃ n, fuel = n + 1 := ⟨fuel - 1, by omega⟩
      unfold wX_shift_11
      rw [e1, nI_add (p + m) w, nI_clamp (by omega), nI_clamp (by omega)]
      refine br_f (nI_nlt (by omega) (by omega)) ⟨vp_in_nI (by omega) (by decide), vp_in_nI (by omega) (by decide), nm_e ⟨vp_in_nI (by omega) (by decide), vp_in_nI (by omega) (by decide), nm_e (nm_r (es_m1 _) ?_)⟩⟩
      exact hX post kn ct wr ic ik im br rk rn sk sn n (by omega) h
    · intro post yk yn su mi pr mo be fuel hf h
      obtain ⟨n, rfl⟩ : ∃ n, fuel = n + 1 := ⟨fuel - 1, by omega⟩
      unfold wY_makeRoom_7
      rw [e1, nI_add (p + m) w, nI_clamp (by omega), nI_clamp (by omega)]
      refine br_f (nI_nlt (by omega) (by omega)) ⟨vp_in_nI (by omega) (by decide), vp_in_nI (by omega) (by decide), nm_e ⟨vp_in_nI (by omega) (by decide), vp_in_nI (by omega) (by decide), nm_e (nm_r (es_m1 _) ?_)⟩⟩
      exact hY post yk yn su mi pr mo be n (by omega) h
/-- shift by w > 0 and makeRoom -/
theorem es_shU {p w z : Nat} (hw : 1 ≤ w) (hp : p ≤ z) (hz : z + w ≤ 60) (kd nm : Nat → Int32) : ∃ kd' nm' : Nat → Int32, (es_V kd nm → es_V kd' nm') ∧ (∀ j, j < p → kd' j = kd j ∧ nm' j = nm j) ∧
    (∀ (post : SX → Prop) (kn ct wr : Int32) (ic ik im br rk rn sk sn : Nat → Int32), post (nI (z + w), kn, ct, wr, kd', nm', ic, ik, im, br, rk, rn, sk, sn) → wpX_shift post (nI z, kn, ct, wr, kd, nm, ic, ik, im, br, rk, rn, sk, sn) (nI p) (nI w)) ∧
    (∀ (post : SY → Prop) (yk yn su mi pr mo be : Nat → Int32), post (nI (z + w), kd', nm', yk, yn, su, mi, pr, mo, be) → wpY_makeRoom post (nI z, kd, nm, yk, yn, su, mi, pr, mo, be) (nI p) (nI w)) := by
  obtain ⟨kd', nm', hV, hq, hX, hY⟩ := es_up (p := p) hw hz (z - p) kd nm (by omega)
  rw [show p + (z - p) = z from by omega] at hX hY
  refine ⟨kd', nm', hV, hq, ?_, ?_⟩
  · intro post kn ct wr ic ik im br rk rn sk sn h
    unfold wpX_shift
    exact br_f (nI_nle (by omega) (by omega)) (nm_e ⟨z + 1, hX post kn ct wr ic ik im br rk rn sk sn (z + 1) (by omega) h⟩)
  · intro post yk yn su mi pr mo be h
    unfold wpY_makeRoom
    exact nm_e ⟨z + 1, hY post yk yn su mi pr mo be (z + 1) (by omega) h⟩
/-! moving down -/
theorem es_dn {a w z : Nat} {D : Int32} (hz : z ≤ 60) (hD : ∀ t, nI (t + w) + D = nI t) : ∀ (m t : Nat) (kd nm : Nat → Int32), t + m + w = z → a ≤ t → ∃ kd' nm' : Nat → Int32, (es_V kd nm → es_V kd' nm') ∧ (∀ j, j < a → kd' j = kd j ∧ nm' j = nm j) ∧
    (∀ (post : SX → Prop) (kn ct wr : Int32) (ic ik im br rk rn sk sn : Nat → Int32) (fuel : Nat), m < fuel → post (nI (z - w), kn, ct, wr, kd', nm', ic, ik, im, br, rk, rn, sk, sn) → wX_shift_55 post D (nI z) kn ct wr fuel (nI (t + w)) kd nm ic ik im br rk rn sk sn) ∧
    (∀ (post : SY → Prop) (yk yn su mi pr mo be : Nat → Int32) (fuel : Nat), m < fuel → post (nI (z - w), kd', nm', yk, yn, su, mi, pr, mo, be) → wY_takeOut_12 post (nI w) (nI (z - w)) fuel (nI t) kd nm yk yn su mi pr mo be) := by
  intro m
  induction m with
  | zero =>
    intro t kd nm hm ht
    refine ⟨kd, nm, fun h => h, fun j _ => ⟨rfl, rfl⟩, ?_, ?_⟩
    · intro post kn ct wr ic ik im br rk rn sk sn fuel hf h
      obtain ⟨n, rfl⟩ : ∃ n, fuel = n + 1 := ⟨fuel - 1, by omega⟩
      unfold wX_shift_55
      have e : nI z + D = nI (z - w) := by rw [← hD (z - w), show z - w + w = z from by omega]
      exact br_t (nI_le (by omega) (by omega)) (nm_r e h)
    · intro post yk yn su mi pr mo be fuel hf h
      obtain ⟨n, rfl⟩ : ∃ n, fuel = n + 1 := ⟨fuel - 1, by omega⟩
      unfold wY_takeOut_12
      exact br_t (nI_le (by omega) (by omega)) h
  | succ m ih =>
    intro t kd nm hm ht
    obtain ⟨kd', nm', hV, hp, hX, hY⟩ := ih (t + 1) (upd kd t (kd (t + w))) (upd nm t (nm (t + w))) (by omega) (by omega)
    refine ⟨kd', nm', fun h => hV (es_V_u h (h _).1 (h _).2 rfl), fun j hj => ?_, ?_, ?_⟩
    · rw [(hp j hj).1, (hp j hj).2, pk_un (by omega), pk_un (by omega)]
      exact ⟨rfl, rfl⟩
    · intro post kn ct wr ic ik im br rk rn sk sn fuel hf h
      obtain ⟨n, rfl⟩ : ∃ n, fuel = n + 1 := ⟨fuel - 1, by omega⟩
      unfold wX_shift_55
      rw [hD, nI_clamp (by omega), nI_clamp (by omega)]
      refine br_f (nI_ge (by omega) (by omega)) ⟨vp_in_nI (by omega) (by decide), vp_in_nI (by omega) (by decide), nm_e ⟨vp_in_nI (by omega) (by decide), vp_in_nI (by omega) (by decide), nm_e (nm_r (nI_1 _) ?_)⟩⟩
      rw [show t + w + 1 = t + 1 + w from by omega]
      exact hX post kn ct wr ic ik im br rk rn sk sn n (by omega) h
    · intro post yk yn su mi pr mo be fuel hf h
      obtain ⟨n, rfl⟩ : ∃ n, fuel = n + 1 := ⟨fuel - 1, by omega⟩
      unfold wY_takeOut_12
      rw [nI_add, nI_clamp (by omega), nI_clamp (by omega)]
      refine br_f (nI_ge (by omega) (by omega)) ⟨vp_in_nI (by omega) (by decide), vp_in_nI (by omega) (by decide), nm_e ⟨vp_in_nI (by omega) (by decide), vp_in_nI (by omega) (by decide), nm_e (nm_r (nI_1 _) ?_)⟩⟩
      exact hY post yk yn su mi pr mo be n (by omega) h
theorem es_D (a w t : Nat) : nI (t + w) + (nI a - nI (a + w)) = nI t := by
  rw [← nI_add, ← nI_add]; grind
theorem es_Dle {a w : Nat} (h : a + w ≤ 60) : nI a - nI (a + w) ≤ 0 := by
  rw [Int32.le_iff_toInt_le, pk_sub_toInt (by omega) (by omega), show (0 : Int32).toInt = 0 from by decide]
  omega
/-- shift down by w from a + w, and takeOut of w from a -/
theorem es_shD {a w z : Nat} (ha : a + w ≤ z) (hz : z ≤ 60) (kd nm : Nat → Int32) : ∃ kd' nm' : Nat → Int32, (es_V kd nm → es_V kd' nm') ∧ (∀ j, j < a → kd' j = kd j ∧ nm' j = nm j) ∧
    (∀ (post : SX → Prop) (kn ct wr : Int32) (ic ik im br rk rn sk sn : Nat → Int32), post (nI (z - w), kn, ct, wr, kd', nm', ic, ik, im, br, rk, rn, sk, sn) → wpX_shift post (nI z, kn, ct, wr, kd, nm, ic, ik, im, br, rk, rn, sk, sn) (nI (a + w)) (nI a - nI (a + w))) ∧
    (∀ (post : SY → Prop) (yk yn su mi pr mo be : Nat → Int32), post (nI (z - w), kd', nm', yk, yn, su, mi, pr, mo, be) → wpY_takeOut post (nI z, kd, nm, yk, yn, su, mi, pr, mo, be) (nI a) (nI w)) := by
  obtain ⟨kd', nm', hV, hq, hX, hY⟩ := es_dn (a := a) (w := w) hz (es_D a w) (z - w - a) a kd nm (by omega) (by omega)
  refine ⟨kd', nm', hV, hq, ?_, ?_⟩
  · intro post kn ct wr ic ik im br rk rn sk sn h
    unfold wpX_shift
    exact br_t (es_Dle (by omega)) ⟨z + 1, hX post kn ct wr ic ik im br rk rn sk sn (z + 1) (by omega) h⟩
  · intro post yk yn su mi pr mo be h
    unfold wpY_takeOut
    exact nm_r (pk_sub (a := z) (b := w) (by omega)) ⟨z + 1, hY post yk yn su mi pr mo be (z + 1) (by omega) h⟩
end
end
section
/-! copy, partner, depth, expressions -/
section
variable {sz cn kn ct wr : Int32} {kd nm ic ik im br rk rn sk sn : Nat → Int32} {yk yn su mi pr mo be : Nat → Int32}
theorem es_x_c49 {post : Int32 → SX → Prop} {x3 : Int32} {i w : Nat} (hi : i + w ≤ 60) 
    (J : ∀ (sk' sn' : Nat → Int32), (∀ j, j < w → sk' j = kd (i + j) ∧ sn' j = nm (i + j)) → wpX_shift (fun u => match u with | (sz, kn, ct, wr, kd, nm, ic, ik, im, br, rk, rn, sk, sn) => (∃ n104 : Nat, wX_copy_104 post x3 (nI w) sz kn ct wr n104 0 kd nm ic ik im br rk rn sk sn)) (sz, kn, ct, wr, kd, nm, ic, ik, im, br, rk, rn, sk', sn') x3 (nI w)) :
    ∀ (m fuel q : Nat) (sk sn : Nat → Int32), q + m = w → m < fuel → (∀ j, j < q → sk j = kd (i + j) ∧ sn j = nm (i + j)) → wX_copy_49 post (nI i) x3 (nI w) sz kn ct wr fuel (nI q) kd nm ic ik im br rk rn sk sn := by
  intro m
  induction m with
  | zero =>
    intro fuel q sk sn hm hf h
    obtain ⟨n, rfl⟩ : ∃ n, fuel = n + 1 := ⟨fuel - 1, by omega⟩
    have e : q = w := by omega
    subst e
    unfold wX_copy_49
    exact br_t (nI_le (by omega) (by omega)) (J sk sn h)
  | succ m ih =>
    intro fuel q sk sn hm hf h
    obtain ⟨n, rfl⟩ : ∃ n, fuel = n + 1 := ⟨fuel - 1, by omega⟩
    unfold wX_copy_49
    rw [nI_add, nI_clamp (by omega), nI_clamp (by omega)]
    refine br_f (nI_ge (by omega) (by omega)) ⟨vp_in_nI (by omega) (by decide), vp_in_nI (by omega) (by decide), nm_e ⟨vp_in_nI (by omega) (by decide), vp_in_nI (by omega) (by decide), nm_e (nm_r (nI_1 _) ?_)⟩⟩
    refine ih n (q + 1) _ _ (by omega) (by omega) (fun j hj => ?_)
    by_cases e : j = q
    · subst e; exact ⟨pk_us, pk_us⟩
    · rw [pk_un e, pk_un e]; exact h j (by omega)
theorem es_y_c49 {post : Int32 → SY → Prop} {x3 : Int32} {i w : Nat} (hi : i + w ≤ 60) 
    (J : ∀ (yk' yn' : Nat → Int32), (∀ j, j < w → yk' j = kd (i + j) ∧ yn' j = nm (i + j)) → wpY_makeRoom (fun u => match u with | (cn, kd, nm, yk, yn, su, mi, pr, mo, be) => (∃ n104 : Nat, wY_copy_104 post x3 (nI w) cn n104 0 kd nm yk yn su mi pr mo be)) (cn, kd, nm, yk', yn', su, mi, pr, mo, be) x3 (nI w)) :
    ∀ (m fuel q : Nat) (yk yn : Nat → Int32), q + m = w → m < fuel → (∀ j, j < q → yk j = kd (i + j) ∧ yn j = nm (i + j)) → wY_copy_49 post (nI i) x3 (nI w) cn fuel (nI q) kd nm yk yn su mi pr mo be := by
  intro m
  induction m with
  | zero =>
    intro fuel q yk yn hm hf h
    obtain ⟨n, rfl⟩ : ∃ n, fuel = n + 1 := ⟨fuel - 1, by omega⟩
    have e : q = w := by omega
    subst e
    unfold wY_copy_49
    exact br_t (nI_le (by omega) (by omega)) (J yk yn h)
  | succ m ih =>
    intro fuel q yk yn hm hf h
    obtain ⟨n, rfl⟩ : ∃ n, fuel = n + 1 := ⟨fuel - 1, by omega⟩
    unfold wY_copy_49
    rw [nI_add, nI_clamp (by omega), nI_clamp (by omega)]
    refine br_f (nI_ge (by omega) (by omega)) ⟨vp_in_nI (by omega) (by decide), vp_in_nI (by omega) (by decide), nm_e ⟨vp_in_nI (by omega) (by decide), vp_in_nI (by omega) (by decide), nm_e (nm_r (nI_1 _) ?_)⟩⟩
    refine ih n (q + 1) _ _ (by omega) (by omega) (fun j hj => ?_)
    by_cases e : j = q
    · subst e; exact ⟨pk_us, pk_us⟩
    · rw [pk_un e, pk_un e]; exact h j (by omega)
/-- the copied tokens are written, on both sides the same -/
theorem es_c104 {p w z : Nat} {ck cm : Nat → Int32} (hp : p + w ≤ 60) (hC : ∀ j, es_ok (ck j) ∧ (ck j = 0 ∨ cm j = 0)) : ∀ (m q : Nat) (kd nm : Nat → Int32), q + m = w → ∃ kd' nm' : Nat → Int32, (es_V kd nm → es_V kd' nm') ∧ (∀ j, j < p → kd' j = kd j ∧ nm' j = nm j) ∧
    (∀ (post : Int32 → SX → Prop) (k : Nat) (ct wr : Int32) (ic ik im br rk rn sk sn : Nat → Int32) (fuel : Nat), k ≤ 60 → m < fuel → (∀ j, j < w → sk j = ck j ∧ sn j = cm j) → (∀ k', k' ≤ k → 8 * k' ≤ p → post (nI z) (nI z, nI k', ct, wr, kd', nm', ic, ik, im, br, rk, rn, sk, sn)) → wX_copy_104 post (nI p) (nI w) (nI z) (nI k) ct wr fuel (nI q) kd nm ic ik im br rk rn sk sn) ∧
    (∀ (post : Int32 → SY → Prop) (yk yn su mi pr mo be : Nat → Int32) (fuel : Nat), m < fuel → (∀ j, j < w → yk j = ck j ∧ yn j = cm j) → post (nI z) (nI z, kd', nm', yk, yn, su, mi, pr, mo, be) → wY_copy_104 post (nI p) (nI w) (nI z) fuel (nI q) kd nm yk yn su mi pr mo be) := by
  intro m
  induction m with
  | zero =>
    intro q kd nm hm
    refine ⟨kd, nm, fun h => h, fun j _ => ⟨rfl, rfl⟩, ?_, ?_⟩
    · intro post k ct wr ic ik im br rk rn sk sn fuel hk hf _ h
      obtain ⟨n, rfl⟩ : ∃ n, fuel = n + 1 := ⟨fuel - 1, by omega⟩
      unfold wX_copy_104
      exact br_t (nI_le (by omega) (by omega)) (es_x_cf (by omega) hk h)
    · intro post yk yn su mi pr mo be fuel hf _ h
      obtain ⟨n, rfl⟩ : ∃ n, fuel = n + 1 := ⟨fuel - 1, by omega⟩
      unfold wY_copy_104
      exact br_t (nI_le (by omega) (by omega)) h
  | succ m ih =>
    intro q kd nm hm
    obtain ⟨kd', nm', hV, hq, hX, hY⟩ := ih (q + 1) (upd kd (p + q) (ck q)) (upd nm (p + q) (cm q)) (by omega)
    refine ⟨kd', nm', fun h => hV (es_V_u h (hC q).1 (hC q).2 rfl), fun j hj => ?_, ?_, ?_⟩
    · rw [(hq j hj).1, (hq j hj).2, pk_un (by omega), pk_un (by omega)]
      exact ⟨rfl, rfl⟩
    · intro post k ct wr ic ik im br rk rn sk sn fuel hk hf hs h
      obtain ⟨n, rfl⟩ : ∃ n, fuel = n + 1 := ⟨fuel - 1, by omega⟩
      unfold wX_copy_104
      rw [nI_add, nI_clamp (by omega), nI_clamp (by omega), (hs q (by omega)).1, (hs q (by omega)).2]
      refine br_f (nI_ge (by omega) (by omega)) ⟨vp_in_nI (by omega) (by decide), vp_in_nI (by omega) (by decide), nm_e ⟨vp_in_nI (by omega) (by decide), vp_in_nI (by omega) (by decide), nm_e (nm_r (nI_1 _) ?_)⟩⟩
      exact hX post k ct wr ic ik im br rk rn sk sn n hk (by omega) hs h
    · intro post yk yn su mi pr mo be fuel hf hs h
      obtain ⟨n, rfl⟩ : ∃ n, fuel = n + 1 := ⟨fuel - 1, by omega⟩
      unfold wY_copy_104
      rw [nI_add, nI_clamp (by omega), nI_clamp (by omega), (hs q (by omega)).1, (hs q (by omega)).2]
      refine br_f (nI_ge (by omega) (by omega)) ⟨vp_in_nI (by omega) (by decide), vp_in_nI (by omega) (by decide), nm_e ⟨vp_in_nI (by omega) (by decide), vp_in_nI (by omega) (by decide), nm_e (nm_r (nI_1 _) ?_)⟩⟩
      exact hY post yk yn su mi pr mo be n (by omega) hs h
/-- the search for a partner: pos m is the place when m places are left -/
theorem es_par {own oth st : Int32} {z M : Nat} {pos : Nat → Int32} (ho : (own = 5 ∧ oth = 6) ∨ (own = 6 ∧ oth = 5)) (hpos : ∀ m, m < M → pos (m + 1) + st = pos m)
    (hin : ∀ m, m < M → ∃ j, j < z ∧ pos (m + 1) = nI j) (hz : z ≤ 60) (hout : pos 0 < 0 ∨ nI z ≤ pos 0) : ∀ (m : Nat) (x : Int32), m ≤ M → ∃ r : Int32,
    (∀ (post : Int32 → Prop) (kn ct wr : Int32) (ic ik im br rk rn sk sn : Nat → Int32) (fuel : Nat), m < fuel → post r → wX_partner_50 post own st (nI z) kn ct wr kd nm ic ik im br rk rn sk sn fuel x (pos m)) ∧
    (∀ (post : Int32 → Prop) (yk yn su mi pr mo be : Nat → Int32) (fuel : Nat), m < fuel → post r → wY_partner_63 post own st oth (nI z) kd nm yk yn su mi pr mo be fuel x (pos m)) := by
  intro m
  induction m with
  | zero =>
    intro x hm
    refine ⟨-2, ?_, ?_⟩
    · intro post kn ct wr ic ik im br rk rn sk sn fuel hf h
      obtain ⟨n, rfl⟩ : ∃ n, fuel = n + 1 := ⟨fuel - 1, by omega⟩
      unfold wX_partner_50
      exact br_c (fun _ => h) (fun a => br_t (by rcases hout with o | o; exact absurd o a; exact o) h)
    · intro post yk yn su mi pr mo be fuel hf h
      obtain ⟨n, rfl⟩ : ∃ n, fuel = n + 1 := ⟨fuel - 1, by omega⟩
      unfold wY_partner_63
      exact br_c (fun _ => h) (fun a => br_t (by rcases hout with o | o; exact absurd o a; exact o) h)
  | succ m ih =>
    intro x hm
    obtain ⟨j, hj, ej⟩ := hin m (by omega)
    have est := hpos m (by omega)
    by_cases k1 : kd j = own
    · obtain ⟨r, hX, hY⟩ := ih (x + 1) (by omega)
      have k2 : ¬ kd j = oth := by
        rw [k1]
        rcases ho with ⟨a, b⟩ | ⟨a, b⟩ <;> rw [a, b] <;> decide
      refine ⟨r, ?_, ?_⟩
      · intro post kn ct wr ic ik im br rk rn sk sn fuel hf h
        obtain ⟨n, rfl⟩ : ∃ n, fuel = n + 1 := ⟨fuel - 1, by omega⟩
        unfold wX_partner_50
        rw [est, ej, nI_clamp (by omega)]
        exact br_f (nI_pos (by omega)) (br_f (nI_ge hj (by omega)) ⟨vp_in_nI (by omega) (by decide), br_t k1 (nm_e (nm_e (hX post kn ct wr ic ik im br rk rn sk sn n (by omega) h)))⟩)
      · intro post yk yn su mi pr mo be fuel hf h
        obtain ⟨n, rfl⟩ : ∃ n, fuel = n + 1 := ⟨fuel - 1, by omega⟩
        unfold wY_partner_63 wY_partner_97
        rw [est, ej, nI_clamp (by omega)]
        have vi := vp_in_nI (n := j) (N := 60) (by omega) (by decide)
        exact br_f (nI_pos (by omega)) (br_f (nI_ge hj (by omega)) ⟨vi, br_f k2 ⟨vi, br_t k1 (nm_e (nm_e (hY post yk yn su mi pr mo be n (by omega) h)))⟩⟩)
    · by_cases k2 : kd j = oth
      · by_cases x0 : x = 0
        · refine ⟨nI j, ?_, ?_⟩
          · intro post kn ct wr ic ik im br rk rn sk sn fuel hf h
            obtain ⟨n, rfl⟩ : ∃ n, fuel = n + 1 := ⟨fuel - 1, by omega⟩
            unfold wX_partner_50 wX_partner_104
            rw [ej, nI_clamp (by omega)]
            have vi := vp_in_nI (n := j) (N := 60) (by omega) (by decide)
            refine br_f (nI_pos (by omega)) (br_f (nI_ge hj (by omega)) ⟨vi, br_f k1 ⟨vi, br_c (fun _ => br_t x0 h) (fun a => ⟨vi, br_t ?_ (br_t x0 h)⟩)⟩⟩)
            rcases ho with ⟨e1, e2⟩ | ⟨e1, e2⟩
            · rw [k2, e2]
            · rw [k2, e2] at a; exact absurd rfl a
          · intro post yk yn su mi pr mo be fuel hf h
            obtain ⟨n, rfl⟩ : ∃ n, fuel = n + 1 := ⟨fuel - 1, by omega⟩
            unfold wY_partner_63
            rw [ej, nI_clamp (by omega)]
            have vi := vp_in_nI (n := j) (N := 60) (by omega) (by decide)
            exact br_f (nI_pos (by omega)) (br_f (nI_ge hj (by omega)) ⟨vi, br_t k2 (br_t x0 h)⟩)
        · obtain ⟨r, hX, hY⟩ := ih (x - 1) (by omega)
          refine ⟨r, ?_, ?_⟩
          · intro post kn ct wr ic ik im br rk rn sk sn fuel hf h
            obtain ⟨n, rfl⟩ : ∃ n, fuel = n + 1 := ⟨fuel - 1, by omega⟩
            unfold wX_partner_50 wX_partner_104
            rw [est, ej, nI_clamp (by omega)]
            have vi := vp_in_nI (n := j) (N := 60) (by omega) (by decide)
            have H := hX post kn ct wr ic ik im br rk rn sk sn n (by omega) h
            refine br_f (nI_pos (by omega)) (br_f (nI_ge hj (by omega)) ⟨vi, br_f k1 ⟨vi, br_c (fun _ => br_f x0 (nm_r (es_m1 x) (nm_e H))) (fun a => ⟨vi, br_t ?_ (br_f x0 (nm_r (es_m1 x) (nm_e H)))⟩)⟩⟩)
            rcases ho with ⟨e1, e2⟩ | ⟨e1, e2⟩
            · rw [k2, e2]
            · rw [k2, e2] at a; exact absurd rfl a
          · intro post yk yn su mi pr mo be fuel hf h
            obtain ⟨n, rfl⟩ : ∃ n, fuel = n + 1 := ⟨fuel - 1, by omega⟩
            unfold wY_partner_63 wY_partner_97
            rw [est, ej, nI_clamp (by omega)]
            have vi := vp_in_nI (n := j) (N := 60) (by omega) (by decide)
            exact br_f (nI_pos (by omega)) (br_f (nI_ge hj (by omega)) ⟨vi, br_t k2 (br_f x0 ⟨vi, br_f k1 ⟨vi, br_t k2 (nm_e (nm_e (hY post yk yn su mi pr mo be n (by omega) h)))⟩⟩)⟩)
      · obtain ⟨r, hX, hY⟩ := ih x (by omega)
        have n5 : ¬ kd j = 5 := by
          rcases ho with ⟨e1, e2⟩ | ⟨e1, e2⟩
          · rw [e1] at k1; exact k1
          · rw [e2] at k2; exact k2
        have n6 : ¬ kd j = 6 := by
          rcases ho with ⟨e1, e2⟩ | ⟨e1, e2⟩
          · rw [e2] at k2; exact k2
          · rw [e1] at k1; exact k1
        refine ⟨r, ?_, ?_⟩
        · intro post kn ct wr ic ik im br rk rn sk sn fuel hf h
          obtain ⟨n, rfl⟩ : ∃ n, fuel = n + 1 := ⟨fuel - 1, by omega⟩
          unfold wX_partner_50
          rw [est, ej, nI_clamp (by omega)]
          have vi := vp_in_nI (n := j) (N := 60) (by omega) (by decide)
          exact br_f (nI_pos (by omega)) (br_f (nI_ge hj (by omega)) ⟨vi, br_f k1 ⟨vi, br_f n5 ⟨vi, br_f n6 (nm_e (hX post kn ct wr ic ik im br rk rn sk sn n (by omega) h))⟩⟩⟩)
        · intro post yk yn su mi pr mo be fuel hf h
          obtain ⟨n, rfl⟩ : ∃ n, fuel = n + 1 := ⟨fuel - 1, by omega⟩
          unfold wY_partner_63 wY_partner_97
          rw [est, ej, nI_clamp (by omega)]
          have vi := vp_in_nI (n := j) (N := 60) (by omega) (by decide)
          exact br_f (nI_pos (by omega)) (br_f (nI_ge hj (by omega)) ⟨vi, br_f k2 ⟨vi, br_f k1 ⟨vi, br_f k2 (nm_e (hY post yk yn su mi pr mo be n (by omega) h))⟩⟩⟩)
/-- the depth, in lockstep -/
theorem es_dep {j : Nat} (hj : j ≤ 60) : ∀ (m p : Nat) (now most : Int32), p + m = j → ∃ r : Int32,
    (∀ (post : Int32 → Prop) (sz kn ct wr : Int32) (ic ik im br rk rn sk sn : Nat → Int32) (fuel : Nat), m < fuel → post r → wX_depth_19 post (nI j) sz kn ct wr kd nm ic ik im br rk rn sk sn fuel now most (nI p)) ∧
    (∀ (post : Int32 → Prop) (cn : Int32) (yk yn su mi pr mo be : Nat → Int32) (fuel : Nat), m < fuel → post r → wY_depth_19 post (nI j) cn kd nm yk yn su mi pr mo be fuel most now (nI p)) := by
  intro m
  induction m with
  | zero =>
    intro p now most hp
    refine ⟨most, ?_, ?_⟩
    · intro post sz kn ct wr ic ik im br rk rn sk sn fuel hf h
      obtain ⟨n, rfl⟩ : ∃ n, fuel = n + 1 := ⟨fuel - 1, by omega⟩
      unfold wX_depth_19
      exact br_t (nI_le (by omega) (by omega)) h
    · intro post cn yk yn su mi pr mo be fuel hf h
      obtain ⟨n, rfl⟩ : ∃ n, fuel = n + 1 := ⟨fuel - 1, by omega⟩
      unfold wY_depth_19
      exact br_t (nI_le (by omega) (by omega)) h
  | succ m ih =>
    intro p now most hp
    have K : ∀ now' : Int32, ∃ r : Int32,
        (∀ (post : Int32 → Prop) (sz kn ct wr : Int32) (ic ik im br rk rn sk sn : Nat → Int32) (fuel : Nat) (z0 : Int32), now + z0 = now' → m < fuel → post r → wX_depth_58 post (wX_depth_19 post (nI j) sz kn ct wr kd nm ic ik im br rk rn sk sn fuel) (nI j) most (nI p) z0 now sz kn ct wr kd nm ic ik im br rk rn sk sn) ∧
        (∀ (post : Int32 → Prop) (cn : Int32) (yk yn su mi pr mo be : Nat → Int32) (fuel : Nat), m < fuel → post r → wY_depth_64 post (wY_depth_19 post (nI j) cn kd nm yk yn su mi pr mo be fuel) (nI j) most (nI p) now' cn kd nm yk yn su mi pr mo be) := by
      intro now'
      by_cases c : now' ≤ most
      · obtain ⟨r, hX, hY⟩ := ih (p + 1) now' most (by omega)
        refine ⟨r, ?_, ?_⟩
        · intro post sz kn ct wr ic ik im br rk rn sk sn fuel z0 e hf h
          unfold wX_depth_58
          exact nm_r e (br_t c (nm_r (nI_1 p) (hX post sz kn ct wr ic ik im br rk rn sk sn fuel hf h)))
        · intro post cn yk yn su mi pr mo be fuel hf h
          unfold wY_depth_64
          exact br_t c (nm_r (nI_1 p) (hY post cn yk yn su mi pr mo be fuel hf h))
      · obtain ⟨r, hX, hY⟩ := ih (p + 1) now' now' (by omega)
        refine ⟨r, ?_, ?_⟩
        · intro post sz kn ct wr ic ik im br rk rn sk sn fuel z0 e hf h
          unfold wX_depth_58
          exact nm_r e (br_f c (nm_r (nI_1 p) (hX post sz kn ct wr ic ik im br rk rn sk sn fuel hf h)))
        · intro post cn yk yn su mi pr mo be fuel hf h
          unfold wY_depth_64
          exact br_f c (nm_r (nI_1 p) (hY post cn yk yn su mi pr mo be fuel hf h))
    have vi := vp_in_nI (n := p) (N := 60) (by omega) (by decide)
    by_cases k5 : kd p = 5
    · obtain ⟨r, hX, hY⟩ := K (now + 1)
      refine ⟨r, ?_, ?_⟩
      · intro post sz kn ct wr ic ik im br rk rn sk sn fuel hf h
        obtain ⟨n, rfl⟩ : ∃ n, fuel = n + 1 := ⟨fuel - 1, by omega⟩
        unfold wX_depth_19
        rw [nI_clamp (by omega)]
        exact br_f (nI_ge (by omega) (by omega)) ⟨vi, br_t k5 (hX post sz kn ct wr ic ik im br rk rn sk sn n 1 rfl (by omega) h)⟩
      · intro post cn yk yn su mi pr mo be fuel hf h
        obtain ⟨n, rfl⟩ : ∃ n, fuel = n + 1 := ⟨fuel - 1, by omega⟩
        unfold wY_depth_19
        rw [nI_clamp (by omega)]
        exact br_f (nI_ge (by omega) (by omega)) ⟨vi, br_t k5 (hY post cn yk yn su mi pr mo be n (by omega) h)⟩
    · by_cases k6 : kd p = 6
      · obtain ⟨r, hX, hY⟩ := K (now - 1)
        refine ⟨r, ?_, ?_⟩
        · intro post sz kn ct wr ic ik im br rk rn sk sn fuel hf h
          obtain ⟨n, rfl⟩ : ∃ n, fuel = n + 1 := ⟨fuel - 1, by omega⟩
          unfold wX_depth_19
          rw [nI_clamp (by omega)]
          exact br_f (nI_ge (by omega) (by omega)) ⟨vi, br_f k5 ⟨vi, br_t k6 (hX post sz kn ct wr ic ik im br rk rn sk sn n (-1) (es_m1 now) (by omega) h)⟩⟩
        · intro post cn yk yn su mi pr mo be fuel hf h
          obtain ⟨n, rfl⟩ : ∃ n, fuel = n + 1 := ⟨fuel - 1, by omega⟩
          unfold wY_depth_19
          rw [nI_clamp (by omega)]
          exact br_f (nI_ge (by omega) (by omega)) ⟨vi, br_f k5 ⟨vi, br_t k6 (hY post cn yk yn su mi pr mo be n (by omega) h)⟩⟩
      · obtain ⟨r, hX, hY⟩ := K now
        refine ⟨r, ?_, ?_⟩
        · intro post sz kn ct wr ic ik im br rk rn sk sn fuel hf h
          obtain ⟨n, rfl⟩ : ∃ n, fuel = n + 1 := ⟨fuel - 1, by omega⟩
          unfold wX_depth_19
          rw [nI_clamp (by omega)]
          exact br_f (nI_ge (by omega) (by omega)) ⟨vi, br_f k5 ⟨vi, br_f k6 (hX post sz kn ct wr ic ik im br rk rn sk sn n 0 (Int32.add_zero now) (by omega) h)⟩⟩
        · intro post cn yk yn su mi pr mo be fuel hf h
          obtain ⟨n, rfl⟩ : ∃ n, fuel = n + 1 := ⟨fuel - 1, by omega⟩
          unfold wY_depth_19
          rw [nI_clamp (by omega)]
          exact br_f (nI_ge (by omega) (by omega)) ⟨vi, br_f k5 ⟨vi, br_f k6 (hY post cn yk yn su mi pr mo be n (by omega) h)⟩⟩
/-- endings at a place, both sides -/
theorem es_x_ends {post : Int32 → SX → Prop} {i z : Nat} (hz : z ≤ 60) (hi : i < z) (hV : es_V kd nm) (h : ∀ (ct' wr' : Int32) (rk' rn' : Nat → Int32), post (es_fo kd nm i es_ge (z - i) 0 0) (nI z, kn, ct', wr', kd, nm, ic, ik, im, br, rk', rn', sk, sn)) : wpX_endings post (nI z, kn, ct, wr, kd, nm, ic, ik, im, br, rk, rn, sk, sn) (nI i) := by
  unfold wpX_endings
  refine es_x_plc (fun e => ?_) (fun _ => br_f (by decide) (es_x_beg fun rk' rn' e => ⟨z + 2, ?_⟩))
  · rcases e with e | e
    · exact absurd e (nI_pos (by omega))
    · exact absurd e (nI_ge hi (by omega))
  · exact es_x_en hz hV (z - i) (z + 2) 0 1 0 rk' rn' (by omega) (by omega) (by omega) (by rw [e]; exact es_Al_0) h
theorem es_y_ends {post : Int32 → Prop} {i z : Nat} (hz : z ≤ 60) (hi : i < z) (hV : es_V kd nm) (h : post (es_fo kd nm i es_ge (z - i) 0 0)) : wpY_endings post (nI z, kd, nm, yk, yn, su, mi, pr, mo, be) (nI i) := by
  unfold wpY_endings
  refine es_y_plc (fun e => ?_) (fun _ => br_f (by decide) (nm_r (nI_1 i) ⟨z + 1, es_y_en hz hV (z - i) (z + 1) 0 0 (by omega) (by omega) h⟩))
  rcases e with e | e
  · exact absurd e (nI_pos (by omega))
  · exact absurd e (nI_ge hi (by omega))
def es_xs (kd nm : Nat → Int32) (z : Nat) : Nat → Nat → Int32 → Int32
  | 0, _, a => a
  | m + 1, i, a => es_xs kd nm z m (i + 1) (a + es_fo kd nm i es_ge (z - i) 0 0)
theorem es_x_x4 {post : Int32 → SX → Prop} {z : Nat} (hz : z ≤ 60) (hV : es_V kd nm) : ∀ (m fuel i : Nat) (a ct wr : Int32) (rk rn : Nat → Int32), i + m = z → m < fuel → (∀ (ct' wr' : Int32) (rk' rn' : Nat → Int32), post (es_xs kd nm z m i a) (nI z, kn, ct', wr', kd, nm, ic, ik, im, br, rk', rn', sk, sn)) → wX_expressions_4 post fuel a (nI i) (nI z) kn ct wr kd nm ic ik im br rk rn sk sn := by
  intro m
  induction m with
  | zero =>
    intro fuel i a ct wr rk rn hm hf h
    obtain ⟨n, rfl⟩ : ∃ n, fuel = n + 1 := ⟨fuel - 1, by omega⟩
    unfold wX_expressions_4
    exact br_t (nI_le (by omega) (by omega)) (h _ _ _ _)
  | succ m ih =>
    intro fuel i a ct wr rk rn hm hf h
    obtain ⟨n, rfl⟩ : ∃ n, fuel = n + 1 := ⟨fuel - 1, by omega⟩
    unfold wX_expressions_4
    refine br_f (nI_ge (by omega) (by omega)) (es_x_ends hz (by omega) hV fun ct' wr' rk' rn' => ?_)
    exact nm_e (nm_r (nI_1 i) (ih n (i + 1) _ _ _ _ _ (by omega) (by omega) h))
theorem es_y_x4 {post : Int32 → Prop} {z : Nat} (hz : z ≤ 60) (hV : es_V kd nm) : ∀ (m fuel i : Nat) (a : Int32), i + m = z → m < fuel → post (es_xs kd nm z m i a) → wY_expressions_4 post (nI z) kd nm yk yn su mi pr mo be fuel a (nI i) := by
  intro m
  induction m with
  | zero =>
    intro fuel i a hm hf h
    obtain ⟨n, rfl⟩ : ∃ n, fuel = n + 1 := ⟨fuel - 1, by omega⟩
    unfold wY_expressions_4
    exact br_t (nI_le (by omega) (by omega)) h
  | succ m ih =>
    intro fuel i a hm hf h
    obtain ⟨n, rfl⟩ : ∃ n, fuel = n + 1 := ⟨fuel - 1, by omega⟩
    unfold wY_expressions_4
    refine br_f (nI_ge (by omega) (by omega)) (es_y_ends hz (by omega) hV ?_)
    exact nm_e (nm_r (nI_1 i) (ih n (i + 1) _ (by omega) (by omega) h))
end
end
section
/-! what is owed -/
theorem es_ok6 {x : Int32} (h0 : ¬ x < 0) (h6 : x ≤ 6) : es_ok x := by
  rw [Int32.lt_iff_toInt_lt, show (0 : Int32).toInt = 0 from by decide] at h0
  rw [Int32.le_iff_toInt_le, show (6 : Int32).toInt = 6 from by decide] at h6
  have e : x.toInt = 0 ∨ x.toInt = 1 ∨ x.toInt = 2 ∨ x.toInt = 3 ∨ x.toInt = 4 ∨ x.toInt = 5 ∨ x.toInt = 6 := by omega
  have E : ∀ y : Int32, x.toInt = y.toInt → x = y := fun y q => Int32.toInt_inj.mp q
  rcases e with e | e | e | e | e | e | e
  · exact Or.inl (E 0 (by rw [e]; decide))
  · rw [E 1 (by rw [e]; decide)]; exact Or.inr (Or.inr (Or.inr rfl))
  · rw [E 2 (by rw [e]; decide)]; exact Or.inr (Or.inr (Or.inr rfl))
  · rw [E 3 (by rw [e]; decide)]; exact Or.inr (Or.inr (Or.inr rfl))
  · rw [E 4 (by rw [e]; decide)]; exact Or.inr (Or.inr (Or.inr rfl))
  · exact Or.inr (Or.inl (E 5 (by rw [e]; decide)))
  · exact Or.inr (Or.inr (Or.inl (E 6 (by rw [e]; decide))))
theorem i_up {k : Nat} {u : SX} {v : SY} (h : i_Rel k u v) : i_Rel (k + 4) u v := h
theorem i_vc0 : wpX_init (fun u => wpY_init (fun v => i_Rel 0 u v)) := by
  unfold wpX_init wpY_init
  exact ⟨0, 0, rfl, rfl, rfl, rfl, rfl, by omega, by omega, fun j => ⟨Or.inl rfl, Or.inl rfl⟩, fun q hq => absurd hq (by omega)⟩
theorem i_vc_insert {k : Nat} {u : SX} {v : SY} (I : i_Rel k u v) (hk : k + 4 ≤ 2048) (v1 : Int32) (v2 : Int32) (v3 : Int32) : wpX_insert (fun r u' => wpY_insert (fun r' v' => r' = r ∧ i_Rel (k + 4) u' v') v v1 v2 v3) u v1 v2 v3 := by
  refine es_el (P := fun u v => wpX_insert (fun r u' => wpY_insert (fun r' v' => r' = r ∧ i_Rel (k + 4) u' v') v v1 v2 v3) u v1 v2 v3) ?_ I
  intro z kk ct wr kd nm ic ik im br rk rn sk sn yk yn su mi pr mo be hK
  have hz := hK.1
  unfold wpX_insert wpY_insert
  refine br_c (fun a => br_t a ⟨rfl, es_rel hK⟩) (fun a => br_c (fun b => ?_) (fun b => br_f a (br_f b ⟨rfl, es_rel hK⟩)))
  refine br_c (fun c => br_f a (br_t b (br_t c ⟨rfl, es_rel hK⟩))) (fun c => br_c (fun d => ?_) (fun d => br_f a (br_t b (br_f c (br_f d ⟨rfl, es_rel hK⟩)))))
  refine pk_lt z 60 (fun e => ?_) (fun e => ?_)
  · obtain ⟨p, hp, rfl⟩ := nI_of a
    have hp' : p ≤ z := (nI_leI hp (by omega)).mp b
    obtain ⟨kd', nm', hV, hq, hX, hY⟩ := es_shU (p := p) (w := 1) (z := z) (by omega) hp' (by omega) kd nm
    have vi := vp_in_nI (n := p) (N := 60) (by omega) (by decide)
    have e60 : ¬ nI z = 60 := fun q => by
      have := (nI_eq (a := z) (b := 60) (by omega) (by omega)).mp q
      omega
    have F : ∀ y : Int32, v2 = 0 ∨ y = 0 → ∀ k', k' ≤ kk → 8 * k' ≤ p → es_K (z + 1) k' (upd kd' p v2) (upd nm' p y) ic ik im br := by
      intro y hy k' h1 h2
      refine es_K_up (p := p) hK (es_V_u (hV hK.2.2.1) (es_ok6 c d) hy rfl) (fun j hj => ?_) (by omega) (by omega) h1 h2
      rw [pk_un (by omega), pk_un (by omega)]
      exact hq j hj
    refine hX _ _ _ _ _ _ _ _ _ _ _ _ ?_
    unfold wX_insert_66
    dsimp only
    rw [nI_clamp (by omega)]
    refine ⟨vi, nm_e (br_c (fun g => ⟨vi, nm_e (es_x_cf (by omega) (by have := hK.2.1; omega) fun k' h1 h2 => ?_)⟩) (fun g => ⟨vi, nm_e (es_x_cf (by omega) (by have := hK.2.1; omega) fun k' h1 h2 => ?_)⟩))⟩
    · refine br_f a (br_t b (br_f c (br_t d (br_f e60 (hY _ _ _ _ _ _ _ _ ?_)))))
      dsimp only
      exact ⟨vi, nm_e (br_t g ⟨vi, nm_e ⟨rfl, es_rel (F v3 (Or.inl g) k' h1 h2)⟩⟩)⟩
    · refine br_f a (br_t b (br_f c (br_t d (br_f e60 (hY _ _ _ _ _ _ _ _ ?_)))))
      dsimp only
      exact ⟨vi, nm_e (br_f g ⟨vi, nm_e ⟨rfl, es_rel (F 0 (Or.inr rfl) k' h1 h2)⟩⟩)⟩
  · have e60 : nI z = 60 := by rw [show z = 60 from by omega]; rfl
    exact br_f a (br_t b (br_f c (br_t d (br_t e60 ⟨rfl, es_rel hK⟩))))
theorem i_vc_delete {k : Nat} {u : SX} {v : SY} (I : i_Rel k u v) (hk : k + 4 ≤ 2048) (v1 : Int32) (v2 : Int32) : wpX_delete (fun r u' => wpY_delete (fun r' v' => r' = r ∧ i_Rel (k + 4) u' v') v v1 v2) u v1 v2 := by
  refine es_el (P := fun u v => wpX_delete (fun r u' => wpY_delete (fun r' v' => r' = r ∧ i_Rel (k + 4) u' v') v v1 v2) u v1 v2) ?_ I
  intro z kk ct wr kd nm ic ik im br rk rn sk sn yk yn su mi pr mo be hK
  have hz := hK.1
  have h8 := hK.2.1
  unfold wpX_delete wpY_delete
  refine es_x_part (fun hp => br_t rfl (es_y_part (fun _ => br_t rfl ⟨rfl, es_rel hK⟩) (fun n => absurd hp n))) (fun hp => br_f (by decide) ?_)
  obtain ⟨i, n, rfl, rfl, hn, hj⟩ := es_nP_n hz hp
  obtain ⟨kd', nm', hV, hq, hX, hY⟩ := es_shD (a := i) (w := n) (z := z) (by omega) hz kd nm
  refine hX _ _ _ _ _ _ _ _ _ _ _ _ (es_x_cf (by omega) (by omega) fun k' h1 h2 => es_y_part (fun e => absurd e hp) (fun _ => br_f (by decide) ?_))
  rw [show nI (i + n) - nI i = nI n from by rw [pk_sub (by omega), show i + n - i = n from by omega]]
  exact hY _ _ _ _ _ _ _ _ ⟨rfl, es_rel (es_K_up (p := i) hK (hV hK.2.2.1) hq (by omega) (by omega) h1 h2)⟩
theorem i_vc_set {k : Nat} {u : SX} {v : SY} (I : i_Rel k u v) (hk : k + 4 ≤ 2048) (v1 : Int32) (v2 : Int32) : wpX_set (fun r u' => wpY_set (fun r' v' => r' = r ∧ i_Rel (k + 4) u' v') v v1 v2) u v1 v2 := by
  refine es_el (P := fun u v => wpX_set (fun r u' => wpY_set (fun r' v' => r' = r ∧ i_Rel (k + 4) u' v') v v1 v2) u v1 v2) ?_ I
  intro z kk ct wr kd nm ic ik im br rk rn sk sn yk yn su mi pr mo be hK
  have hz := hK.1
  have h8 := hK.2.1
  unfold wpX_set wpY_set
  refine es_x_plc (fun hp => br_t rfl (es_y_plc (fun _ => br_t rfl ⟨rfl, es_rel hK⟩) (fun n => absurd hp n))) (fun hp => br_f (by decide) ?_)
  obtain ⟨p, rfl, hp'⟩ := es_nL_n hz hp
  have vi := vp_in_nI (n := p) (N := 60) (by omega) (by decide)
  rw [nI_clamp (by omega)]
  refine ⟨vi, br_c (fun a => ⟨vi, nm_e (es_x_cf (by omega) (by omega) fun k' h1 h2 => es_y_plc (fun e => absurd e hp) (fun _ => br_f (by decide) ⟨vi, br_t a ⟨vi, nm_e ⟨rfl, es_rel ?_⟩⟩⟩))⟩) (fun a => es_y_plc (fun e => absurd e hp) (fun _ => br_f (by decide) ⟨vi, br_f a ⟨rfl, es_rel hK⟩⟩))⟩
  refine es_K_up (p := p) hK (fun j => ?_) (fun j hj => ⟨rfl, pk_un (by omega)⟩) hz (by omega) h1 h2
  by_cases e : j = p
  · subst e
    exact ⟨(hK.2.2.1 j).1, Or.inl a⟩
  · rw [pk_un e]
    exact hK.2.2.1 j
theorem i_vc_copy {k : Nat} {u : SX} {v : SY} (I : i_Rel k u v) (hk : k + 4 ≤ 2048) (v1 : Int32) (v2 : Int32) (v3 : Int32) : wpX_copy (fun r u' => wpY_copy (fun r' v' => r' = r ∧ i_Rel (k + 4) u' v') v v1 v2 v3) u v1 v2 v3 := by
  refine es_el (P := fun u v => wpX_copy (fun r u' => wpY_copy (fun r' v' => r' = r ∧ i_Rel (k + 4) u' v') v v1 v2 v3) u v1 v2 v3) ?_ I
  intro z kk ct wr kd nm ic ik im br rk rn sk sn yk yn su mi pr mo be hK
  have hz := hK.1
  have h8 := hK.2.1
  unfold wpX_copy wpY_copy
  refine es_x_part (fun hp => br_t rfl (es_y_part (fun _ => br_t rfl ⟨rfl, es_rel hK⟩) (fun n => absurd hp n))) (fun hp => br_f (by decide) ?_)
  have Y1 : ∀ {A : Prop} {B : Prop}, B → ((1 : Int32) = 0 → A) ∧ (¬ (1 : Int32) = 0 → B) := fun b => br_f (by decide) b
  refine br_c (fun a => es_y_part (fun e => absurd e hp) (fun _ => Y1 (br_t a ⟨rfl, es_rel hK⟩))) (fun a => br_c (fun b => ?_) (fun b => es_y_part (fun e => absurd e hp) (fun _ => Y1 (br_f a (br_f b ⟨rfl, es_rel hK⟩)))))
  obtain ⟨i, w, rfl, rfl, hw, hj⟩ := es_nP_n hz hp
  obtain ⟨p, hp1, rfl⟩ := nI_of a
  have hp' : p ≤ z := (nI_leI hp1 (by omega)).mp b
  have em : nI (i + w) - nI i = nI w := by rw [pk_sub (by omega), show i + w - i = w from by omega]
  refine nm_r em ?_
  rw [nI_add]
  refine pk_le (z + w) 60 (fun c => ?_) (fun c => es_y_part (fun e => absurd e hp) (fun _ => Y1 (br_f a (br_t b (nm_r em ?_)))))
  · have hb : nI z + nI w ≤ 60 := by rw [nI_add]; exact nI_le (b := 60) c (by decide)
    obtain ⟨kd1, nm1, hV1, hq1, hX1, hY1⟩ := es_shU (p := p) (w := w) (z := z) hw hp' c kd nm
    obtain ⟨kd2, nm2, hV2, hq2, hX2, hY2⟩ := es_c104 (p := p) (w := w) (z := z + w) (ck := fun j => kd (i + j)) (cm := fun j => nm (i + j)) (by omega) (fun j => hK.2.2.1 (i + j)) w 0 kd1 nm1 (by omega)
    refine ⟨w + 1, es_x_c49 (by omega) (fun sk' sn' hs => ?_) w (w + 1) 0 sk sn (by omega) (by omega) (fun j hj => absurd hj (by omega))⟩
    refine hX1 _ _ _ _ _ _ _ _ _ _ _ _ ⟨w + 1, hX2 _ _ _ _ _ _ _ _ _ _ _ _ _ (by omega) (by omega) hs (fun k' h1 h2 => ?_)⟩
    refine es_y_part (fun e => absurd e hp) (fun _ => Y1 (br_f a (br_t b (nm_r em (br_t hb ⟨w + 1, es_y_c49 (by omega) (fun yk' yn' hs' => ?_) w (w + 1) 0 yk yn (by omega) (by omega) (fun j hj => absurd hj (by omega))⟩)))))
    refine hY1 _ _ _ _ _ _ _ _ ⟨w + 1, hY2 _ _ _ _ _ _ _ _ _ (by omega) hs' ⟨rfl, es_rel ?_⟩⟩
    refine es_K_up (p := p) hK (hV2 (hV1 hK.2.2.1)) (fun j hj => ?_) c (by omega) h1 h2
    rw [(hq2 j hj).1, (hq2 j hj).2]
    exact hq1 j hj
  · have hb : ¬ nI z + nI w ≤ 60 := by rw [nI_add]; exact nI_ge (a := 60) c (by omega)
    exact br_f hb ⟨rfl, es_rel hK⟩
theorem i_vc_fold {k : Nat} {u : SX} {v : SY} (I : i_Rel k u v) (hk : k + 4 ≤ 2048) (v1 : Int32) (v2 : Int32) : wpX_fold (fun r u' => wpY_fold (fun r' v' => r' = r ∧ i_Rel (k + 4) u' v') v v1 v2) u v1 v2 := by
  refine es_el (P := fun u v => wpX_fold (fun r u' => wpY_fold (fun r' v' => r' = r ∧ i_Rel (k + 4) u' v') v v1 v2) u v1 v2) ?_ I
  intro z kk ct wr kd nm ic ik im br rk rn sk sn yk yn su mi pr mo be hK
  have hz := hK.1
  have h8 := hK.2.1
  unfold wpX_fold wpY_fold
  refine es_x_part (fun hp => br_t rfl (es_y_part (fun _ => br_t rfl ⟨rfl, es_rel hK⟩) (fun n => absurd hp n))) (fun hp => br_f (by decide) ?_)
  obtain ⟨i, n, rfl, rfl, hn, hj⟩ := es_nP_n hz hp
  refine es_x_read hz h8 hj hK.2.2.1 hK.2.2.2 (fun e ct' wr' ic' ik' im' br' rk' rn' hI => ?_) (fun v e ct' wr' ic' ik' im' br' rk' rn' hI er => ?_)
  · have hK' : es_K z (z / 8) kd nm ic' ik' im' br' := ⟨hz, by omega, hK.2.2.1, hI⟩
    refine br_t rfl (es_y_part (fun e => absurd e hp) (fun _ => br_f (by decide) (es_y_reads (by omega) hK.2.2.1 (fun _ => br_t rfl ⟨rfl, es_rel hK'⟩) (fun v e' => ?_))))
    rw [e] at e'; cases e'
  · have hK' : es_K z (z / 8) kd nm ic' ik' im' br' := ⟨hz, by omega, hK.2.2.1, hI⟩
    refine br_f (by decide) (nm_r er ?_)
    obtain ⟨w, rfl⟩ : ∃ w, n = w + 1 := ⟨n - 1, by omega⟩
    obtain ⟨kd', nm', hV, hq, hX, hY⟩ := es_shD (a := i + 1) (w := w) (z := z) (by omega) hz kd nm
    have vi := vp_in_nI (n := i) (N := 60) (by omega) (by decide)
    have e1 : nI i + 1 = nI (i + 1) := nI_1 i
    have e2 : i + (w + 1) = i + 1 + w := by omega
    have e3 : nI (i + 1 + w) - nI i - 1 = nI w := by
      rw [pk_sub (by omega), show i + 1 + w - i = w + 1 from by omega]
      exact nI_pred w
    rw [e1, e2]
    refine hX _ _ _ _ _ _ _ _ _ _ _ _ ?_
    dsimp only
    rw [nI_clamp (by omega)]
    refine ⟨vi, nm_e ⟨vi, nm_e (es_x_cf (by omega) (by omega) fun k' h1 h2 => ?_)⟩⟩
    rw [← e2]
    refine es_y_part (fun e => absurd e hp) (fun _ => br_f (by decide) (es_y_reads (by omega) hK.2.2.1 (fun e' => ?_) (fun v' e' => br_f (by decide) (es_y_val (by omega) hK.2.2.1 e (fun su' mi' pr' mo' be' => ?_)))))
    · rw [e] at e'; cases e'
    · rw [e2, e3]
      refine hY _ _ _ _ _ _ _ _ ?_
      dsimp only
      refine ⟨vi, nm_e ⟨vi, nm_e ⟨rfl, es_rel (es_K_up (p := i) hK' (es_V_u (hV hK.2.2.1) (Or.inl rfl) (Or.inl rfl) rfl) (fun j hj => ?_) (by omega) (by omega) h1 h2)⟩⟩⟩
      rw [pk_un (by omega), pk_un (by omega)]
      exact hq j (by omega)
theorem i_vc_clear {k : Nat} {u : SX} {v : SY} (I : i_Rel k u v) (hk : k + 4 ≤ 2048) : wpX_clear (fun r u' => wpY_clear (fun r' v' => r' = r ∧ i_Rel (k + 4) u' v') v) u := by
  refine es_el (P := fun u v => wpX_clear (fun r u' => wpY_clear (fun r' v' => r' = r ∧ i_Rel (k + 4) u' v') v) u) ?_ I
  intro z kk ct wr kd nm ic ik im br rk rn sk sn yk yn su mi pr mo be hK
  unfold wpX_clear wpY_clear
  exact ⟨rfl, 0, 0, rfl, rfl, rfl, rfl, rfl, by omega, by omega, hK.2.2.1, fun q hq => absurd hq (by omega)⟩
theorem i_vc_size {k : Nat} {u : SX} {v : SY} (I : i_Rel k u v) (hk : k + 4 ≤ 2048) : wpX_size (fun r => wpY_size (fun r' => r' = r ∧ i_Rel (k + 4) u v) v) u := by
  refine es_el (P := fun u v => wpX_size (fun r => wpY_size (fun r' => r' = r ∧ i_Rel (k + 4) u v) v) u) ?_ I
  intro z kk ct wr kd nm ic ik im br rk rn sk sn yk yn su mi pr mo be hK
  unfold wpX_size wpY_size
  exact ⟨rfl, es_rel hK⟩
theorem i_vc_kindAt {k : Nat} {u : SX} {v : SY} (I : i_Rel k u v) (hk : k + 4 ≤ 2048) (v1 : Int32) : wpX_kindAt (fun r => wpY_kindAt (fun r' => r' = r ∧ i_Rel (k + 4) u v) v v1) u v1 := by
  refine es_el (P := fun u v => wpX_kindAt (fun r => wpY_kindAt (fun r' => r' = r ∧ i_Rel (k + 4) u v) v v1) u v1) ?_ I
  intro z kk ct wr kd nm ic ik im br rk rn sk sn yk yn su mi pr mo be hK
  have hz := hK.1
  unfold wpX_kindAt wpY_kindAt
  refine es_x_plc (fun hp => br_t rfl (es_y_plc (fun _ => br_t rfl ⟨rfl, es_rel hK⟩) (fun n => absurd hp n))) (fun hp => br_f (by decide) ?_)
  obtain ⟨p, rfl, hp'⟩ := es_nL_n hz hp
  have vi := vp_in_nI (n := p) (N := 60) (by omega) (by decide)
  exact ⟨vi, es_y_plc (fun e => absurd e hp) (fun _ => br_f (by decide) ⟨vi, rfl, es_rel hK⟩)⟩
theorem i_vc_numberAt {k : Nat} {u : SX} {v : SY} (I : i_Rel k u v) (hk : k + 4 ≤ 2048) (v1 : Int32) : wpX_numberAt (fun r => wpY_numberAt (fun r' => r' = r ∧ i_Rel (k + 4) u v) v v1) u v1 := by
  refine es_el (P := fun u v => wpX_numberAt (fun r => wpY_numberAt (fun r' => r' = r ∧ i_Rel (k + 4) u v) v v1) u v1) ?_ I
  intro z kk ct wr kd nm ic ik im br rk rn sk sn yk yn su mi pr mo be hK
  have hz := hK.1
  unfold wpX_numberAt wpY_numberAt
  refine es_x_plc (fun hp => br_t rfl (es_y_plc (fun _ => br_t rfl ⟨rfl, es_rel hK⟩) (fun n => absurd hp n))) (fun hp => br_f (by decide) ?_)
  obtain ⟨p, rfl, hp'⟩ := es_nL_n hz hp
  have vi := vp_in_nI (n := p) (N := 60) (by omega) (by decide)
  rw [nI_clamp (by omega)]
  refine ⟨vi, br_c (fun a => ⟨vi, es_y_plc (fun e => absurd e hp) (fun _ => br_f (by decide) ⟨vi, ?_, es_rel hK⟩)⟩) (fun a => es_y_plc (fun e => absurd e hp) (fun _ => br_f (by decide) ⟨vi, ?_, es_rel hK⟩))⟩
  · rfl
  · rcases (hK.2.2.1 p).2 with q | q
    · exact absurd q a
    · exact q
theorem i_vc_isExpression {k : Nat} {u : SX} {v : SY} (I : i_Rel k u v) (hk : k + 4 ≤ 2048) (v1 : Int32) (v2 : Int32) : wpX_isExpression (fun r u' => wpY_isExpression (fun r' => r' = r ∧ i_Rel (k + 4) u' v) v v1 v2) u v1 v2 := by
  refine es_el (P := fun u v => wpX_isExpression (fun r u' => wpY_isExpression (fun r' => r' = r ∧ i_Rel (k + 4) u' v) v v1 v2) u v1 v2) ?_ I
  intro z kk ct wr kd nm ic ik im br rk rn sk sn yk yn su mi pr mo be hK
  have hz := hK.1
  have h8 := hK.2.1
  unfold wpX_isExpression wpY_isExpression
  refine es_x_part (fun hp => br_t rfl (es_y_part (fun _ => br_t rfl ⟨rfl, es_rel hK⟩) (fun n => absurd hp n))) (fun hp => br_f (by decide) ?_)
  obtain ⟨i, n, rfl, rfl, hn, hj⟩ := es_nP_n hz hp
  refine es_x_read hz h8 hj hK.2.2.1 hK.2.2.2 (fun e ct' wr' ic' ik' im' br' rk' rn' hI => ?_) (fun v e ct' wr' ic' ik' im' br' rk' rn' hI er => ?_)
  · have hK' : es_K z (z / 8) kd nm ic' ik' im' br' := ⟨hz, by omega, hK.2.2.1, hI⟩
    refine br_t rfl (es_y_part (fun e => absurd e hp) (fun _ => br_f (by decide) (es_y_reads (by omega) hK.2.2.1 (fun _ => br_t rfl ⟨rfl, es_rel hK'⟩) (fun v e' => ?_))))
    rw [e] at e'; cases e'
  · have hK' : es_K z (z / 8) kd nm ic' ik' im' br' := ⟨hz, by omega, hK.2.2.1, hI⟩
    refine br_f (by decide) (es_y_part (fun e => absurd e hp) (fun _ => br_f (by decide) (es_y_reads (by omega) hK.2.2.1 (fun e' => ?_) (fun v e' => br_f (by decide) ⟨rfl, es_rel hK'⟩))))
    rw [e] at e'; cases e'
theorem i_vc_value {k : Nat} {u : SX} {v : SY} (I : i_Rel k u v) (hk : k + 4 ≤ 2048) (v1 : Int32) (v2 : Int32) : wpX_value (fun r u' => wpY_value (fun r' v' => r' = r ∧ i_Rel (k + 4) u' v') v v1 v2) u v1 v2 := by
  refine es_el (P := fun u v => wpX_value (fun r u' => wpY_value (fun r' v' => r' = r ∧ i_Rel (k + 4) u' v') v v1 v2) u v1 v2) ?_ I
  intro z kk ct wr kd nm ic ik im br rk rn sk sn yk yn su mi pr mo be hK
  have hz := hK.1
  have h8 := hK.2.1
  unfold wpX_value wpY_value
  refine es_x_part (fun hp => br_t rfl (es_y_part (fun _ => br_t rfl ⟨rfl, es_rel hK⟩) (fun n => absurd hp n))) (fun hp => br_f (by decide) ?_)
  obtain ⟨i, n, rfl, rfl, hn, hj⟩ := es_nP_n hz hp
  refine es_x_read hz h8 hj hK.2.2.1 hK.2.2.2 (fun e ct' wr' ic' ik' im' br' rk' rn' hI => ?_) (fun v e ct' wr' ic' ik' im' br' rk' rn' hI er => ?_)
  · have hK' : es_K z (z / 8) kd nm ic' ik' im' br' := ⟨hz, by omega, hK.2.2.1, hI⟩
    refine br_t rfl (es_y_part (fun e => absurd e hp) (fun _ => br_f (by decide) (es_y_reads (by omega) hK.2.2.1 (fun _ => br_t rfl ⟨rfl, es_rel hK'⟩) (fun v e' => ?_))))
    rw [e] at e'; cases e'
  · have hK' : es_K z (z / 8) kd nm ic' ik' im' br' := ⟨hz, by omega, hK.2.2.1, hI⟩
    refine br_f (by decide) (es_y_part (fun e => absurd e hp) (fun _ => br_f (by decide) (es_y_reads (by omega) hK.2.2.1 (fun e' => ?_) (fun v' e' => br_f (by decide) (es_y_val (by omega) hK.2.2.1 e (fun su' mi' pr' mo' be' => ⟨er.symm, es_rel hK'⟩))))))
    rw [e] at e'; cases e'
theorem i_vc_longest {k : Nat} {u : SX} {v : SY} (I : i_Rel k u v) (hk : k + 4 ≤ 2048) (v1 : Int32) : wpX_longest (fun r u' => wpY_longest (fun r' => r' = r ∧ i_Rel (k + 4) u' v) v v1) u v1 := by
  refine es_el (P := fun u v => wpX_longest (fun r u' => wpY_longest (fun r' => r' = r ∧ i_Rel (k + 4) u' v) v v1) u v1) ?_ I
  intro z kk ct wr kd nm ic ik im br rk rn sk sn yk yn su mi pr mo be hK
  have hz := hK.1
  unfold wpX_longest wpY_longest
  refine es_x_plc (fun hp => br_t rfl (es_y_plc (fun _ => br_t rfl ⟨rfl, es_rel hK⟩) (fun n => absurd hp n))) (fun hp => br_f (by decide) ?_)
  obtain ⟨i, rfl, hi⟩ := es_nL_n hz hp
  refine es_x_beg fun rk' rn' e => ⟨z + 2, ?_⟩
  refine es_x_lg hz hK.2.2.1 (z - i) (z + 2) 0 1 (-2) rk' rn' (by omega) (by omega) (by omega) (by rw [e]; exact es_Al_0) ?_
  intro ct' wr' rk' rn'
  exact es_y_plc (fun e => absurd e hp) (fun _ => br_f (by decide) (nm_r (nI_1 i) ⟨z + 1, es_y_lg hz hK.2.2.1 (z - i) (z + 1) 0 (-2) (by omega) (by omega) ⟨rfl, es_rel hK⟩⟩))
theorem i_vc_endings {k : Nat} {u : SX} {v : SY} (I : i_Rel k u v) (hk : k + 4 ≤ 2048) (v1 : Int32) : wpX_endings (fun r u' => wpY_endings (fun r' => r' = r ∧ i_Rel (k + 4) u' v) v v1) u v1 := by
  refine es_el (P := fun u v => wpX_endings (fun r u' => wpY_endings (fun r' => r' = r ∧ i_Rel (k + 4) u' v) v v1) u v1) ?_ I
  intro z kk ct wr kd nm ic ik im br rk rn sk sn yk yn su mi pr mo be hK
  have hz := hK.1
  by_cases hp : es_nL z v1
  · unfold wpX_endings wpY_endings
    exact es_x_plc (fun _ => br_t rfl (es_y_plc (fun _ => br_t rfl ⟨rfl, es_rel hK⟩) (fun n => absurd hp n))) (fun n => absurd hp n)
  · obtain ⟨i, rfl, hi⟩ := es_nL_n hz hp
    exact es_x_ends hz hi hK.2.2.1 fun ct' wr' rk' rn' => es_y_ends hz hi hK.2.2.1 ⟨rfl, es_rel hK⟩
theorem i_vc_expressions {k : Nat} {u : SX} {v : SY} (I : i_Rel k u v) (hk : k + 4 ≤ 2048) : wpX_expressions (fun r u' => wpY_expressions (fun r' => r' = r ∧ i_Rel (k + 4) u' v) v) u := by
  refine es_el (P := fun u v => wpX_expressions (fun r u' => wpY_expressions (fun r' => r' = r ∧ i_Rel (k + 4) u' v) v) u) ?_ I
  intro z kk ct wr kd nm ic ik im br rk rn sk sn yk yn su mi pr mo be hK
  have hz := hK.1
  unfold wpX_expressions wpY_expressions
  exact ⟨z + 1, es_x_x4 hz hK.2.2.1 z (z + 1) 0 0 ct wr rk rn (by omega) (by omega) fun ct' wr' rk' rn' => ⟨z + 1, es_y_x4 hz hK.2.2.1 z (z + 1) 0 0 (by omega) (by omega) ⟨rfl, es_rel hK⟩⟩⟩
theorem es_nxt1 {z : Nat} {v : Int32} (hz : z ≤ 60) (h : es_nL z v) {post : Int32 → SY → Prop} {kd nm yk yn su mi pr mo be : Nat → Int32} (hp : post 0 (nI z, kd, nm, yk, yn, su, mi, pr, mo, be)) (x4 : Int32) : wY_best_9 post v 1 0 0 x4 (nI z) kd nm yk yn su mi pr mo be := by
  unfold wY_best_9
  exact br_c (fun _ => hp) (fun _ => es_y_plc (fun _ => br_t rfl hp) (fun n => absurd h n))
theorem i_vc_best {k : Nat} {u : SX} {v : SY} (I : i_Rel k u v) (hk : k + 4 ≤ 2048) (v1 : Int32) : wpX_best (fun r u' => wpY_best (fun r' v' => r' = r ∧ i_Rel (k + 4) u' v') v v1) u v1 := by
  refine es_el (P := fun u v => wpX_best (fun r u' => wpY_best (fun r' v' => r' = r ∧ i_Rel (k + 4) u' v') v v1) u v1) ?_ I
  intro z kk ct wr kd nm ic ik im br rk rn sk sn yk yn su mi pr mo be hK
  have hz := hK.1
  unfold wpX_best wpY_best
  refine es_x_plc (fun hp => br_t rfl (nm_e ⟨1, es_nxt1 hz hp ⟨rfl, es_rel hK⟩ _⟩)) (fun hp => br_f (by decide) ?_)
  obtain ⟨i, rfl, hi⟩ := es_nL_n hz hp
  refine es_x_beg fun rk' rn' e => ⟨z + 2, ?_⟩
  refine es_x_be hz hK.2.2.1 (z - i) (z + 2) 0 1 0 0 rk' rn' (by omega) (by omega) (by omega) (by rw [e]; exact es_Al_0) ?_
  intro ct' wr' rk' rn'
  exact nm_r (nI_1 i) ⟨z + 1, es_y_be hz hi hK.2.2.1 (z - i) (z + 1) 0 0 0 su mi pr mo be (by omega) (by omega) fun su' mi' pr' mo' be' => ⟨rfl, es_rel hK⟩⟩
theorem i_vc_partner {k : Nat} {u : SX} {v : SY} (I : i_Rel k u v) (hk : k + 4 ≤ 2048) (v1 : Int32) : wpX_partner (fun r => wpY_partner (fun r' => r' = r ∧ i_Rel (k + 4) u v) v v1) u v1 := by
  refine es_el (P := fun u v => wpX_partner (fun r => wpY_partner (fun r' => r' = r ∧ i_Rel (k + 4) u v) v v1) u v1) ?_ I
  intro z kk ct wr kd nm ic ik im br rk rn sk sn yk yn su mi pr mo be hK
  have hz := hK.1
  unfold wpX_partner wpY_partner
  refine es_x_plc (fun hp => br_t rfl (es_y_plc (fun _ => br_t rfl ⟨rfl, es_rel hK⟩) (fun n => absurd hp n))) (fun hp => br_f (by decide) ?_)
  obtain ⟨p, rfl, hp'⟩ := es_nL_n hz hp
  have vi := vp_in_nI (n := p) (N := 60) (by omega) (by decide)
  rw [nI_clamp (by omega)]
  have A : kd p = 5 → ∃ r, (∀ post : Int32 → Prop, post r → wX_partner_31 post (nI p) (kd p) (nI z) (nI kk) ct wr kd nm ic ik im br rk rn sk sn) ∧ (∀ post' : Int32 → Prop, post' r → wY_partner_31 post' (nI p) (kd p) (nI z) kd nm yk yn su mi pr mo be) := by
    intro a
    obtain ⟨r, hX, hY⟩ := es_par (kd := kd) (nm := nm) (own := 5) (oth := 6) (st := 1) (z := z) (M := z - p - 1) (pos := fun m => nI (z - m)) (Or.inl ⟨rfl, rfl⟩) (fun m hm => by show nI (z - (m + 1)) + 1 = nI (z - m); rw [nI_1, show z - (m + 1) + 1 = z - m from by omega]) (fun m hm => ⟨z - (m + 1), by omega, rfl⟩) hz (Or.inr (nI_le (by omega) (by omega))) (z - p - 1) 0 (by omega)
    have e : z - (z - p - 1) = p + 1 := by omega
    rw [e] at hX hY
    refine ⟨r, fun post h => ?_, fun post' h => ?_⟩
    · unfold wX_partner_31
      rw [a]
      exact br_t rfl (nm_r (nI_1 p) ⟨z + 1, hX post _ _ _ _ _ _ _ _ _ _ _ (z + 1) (by omega) h⟩)
    · unfold wY_partner_31 wY_partner_41
      rw [a]
      exact br_t rfl (br_t rfl (nm_r (nI_1 p) ⟨z + 1, hY post' _ _ _ _ _ _ _ (z + 1) (by omega) h⟩))
  have B : kd p = 6 → ∃ r, (∀ post : Int32 → Prop, post r → wX_partner_31 post (nI p) (kd p) (nI z) (nI kk) ct wr kd nm ic ik im br rk rn sk sn) ∧ (∀ post' : Int32 → Prop, post' r → wY_partner_31 post' (nI p) (kd p) (nI z) kd nm yk yn su mi pr mo be) := by
    intro a
    obtain ⟨r, hX, hY⟩ := es_par (kd := kd) (nm := nm) (own := 6) (oth := 5) (st := -1) (z := z) (M := p) (pos := fun m => nI m - 1) (Or.inr ⟨rfl, rfl⟩) (fun m hm => by show nI (m + 1) - 1 + (-1) = nI m - 1; rw [nI_pred, es_m1]) (fun m hm => ⟨m, by omega, nI_pred m⟩) hz (Or.inl (by show nI 0 - 1 < 0; decide)) p 0 (by omega)
    refine ⟨r, fun post h => ?_, fun post' h => ?_⟩
    · unfold wX_partner_31
      rw [a]
      exact br_f (by decide) (nm_r (es_m1 _) ⟨z + 1, hX post _ _ _ _ _ _ _ _ _ _ _ (z + 1) (by omega) h⟩)
    · unfold wY_partner_31 wY_partner_41
      rw [a]
      exact br_f (by decide) (br_f (by decide) (nm_r (es_m1 _) ⟨z + 1, hY post' _ _ _ _ _ _ _ (z + 1) (by omega) h⟩))
  refine ⟨vi, nm_e (br_c (fun a => ?_) (fun a => br_c (fun b => ?_) (fun b => ?_)))⟩
  · obtain ⟨r, hX, hY⟩ := A a
    refine hX _ (es_y_plc (fun e => absurd e hp) (fun _ => br_f (by decide) ⟨vi, nm_e (br_t a (hY _ ⟨rfl, es_rel hK⟩))⟩))
  · obtain ⟨r, hX, hY⟩ := B b
    refine hX _ (es_y_plc (fun e => absurd e hp) (fun _ => br_f (by decide) ⟨vi, nm_e (br_f a (br_t b (hY _ ⟨rfl, es_rel hK⟩)))⟩))
  · refine es_y_plc (fun e => absurd e hp) (fun _ => br_f (by decide) ?_)
    exact ⟨vi, nm_e (br_f a (br_f b ⟨rfl, es_rel hK⟩))⟩
theorem i_vc_depth {k : Nat} {u : SX} {v : SY} (I : i_Rel k u v) (hk : k + 4 ≤ 2048) (v1 : Int32) (v2 : Int32) : wpX_depth (fun r => wpY_depth (fun r' => r' = r ∧ i_Rel (k + 4) u v) v v1 v2) u v1 v2 := by
  refine es_el (P := fun u v => wpX_depth (fun r => wpY_depth (fun r' => r' = r ∧ i_Rel (k + 4) u v) v v1 v2) u v1 v2) ?_ I
  intro z kk ct wr kd nm ic ik im br rk rn sk sn yk yn su mi pr mo be hK
  have hz := hK.1
  unfold wpX_depth wpY_depth
  refine es_x_part (fun hp => br_t rfl (es_y_part (fun _ => br_t rfl ⟨rfl, es_rel hK⟩) (fun n => absurd hp n))) (fun hp => br_f (by decide) ?_)
  obtain ⟨i, n, rfl, rfl, hn, hj⟩ := es_nP_n hz hp
  obtain ⟨r, hX, hY⟩ := es_dep (kd := kd) (nm := nm) (j := i + n) (by omega) n i 0 0 rfl
  exact ⟨n + 1, hX _ _ _ _ _ _ _ _ _ _ _ _ _ (n + 1) (by omega) (es_y_part (fun e => absurd e hp) (fun _ => br_f (by decide) ⟨n + 1, hY _ _ _ _ _ _ _ _ _ (n + 1) (by omega) ⟨rfl, es_rel hK⟩⟩))⟩
end
