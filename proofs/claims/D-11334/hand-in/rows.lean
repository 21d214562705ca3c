section
/-! The pure picture: tables as numbers in base 8, the search as a machine with checks. -/
/-- forces a number before going on -/
def ct_fc {α : Type} (n : Nat) (k : Nat → α) : α := match n with
  | 0 => k 0
  | Nat.succ m => k (Nat.succ m)
theorem ct_fc_eq {α : Type} (n : Nat) (k : Nat → α) : ct_fc n k = k n := by
  cases n <;> rfl
/-- digit c of a number in base 8 -/
def ct_dg (T c : Nat) : Nat := Nat.mod (Nat.div T (Nat.pow 8 c)) 8
/-- the inverse letter of a cell letter -/
def ct_l (c : Nat) : Nat := Nat.xor (Nat.mod c 4) 1
/-- the next free image (9: none) -/
def ct_nf (T l fr P n : Nat) : Nat → Nat → Nat
  | 0, _ => 9
  | f + 1, im => bif Nat.ble P im then (bif Nat.ble fr P then (bif Nat.ble n P then 9 else P) else 9)
      else bif Nat.beq (ct_dg T (Nat.add (Nat.mul 4 im) l)) 0 then im else ct_nf T l fr P n f (Nat.succ im)
/-- where a word leads (0: unknown, p + 1: point p) -/
def ct_fol (T : Nat) : List Nat → Nat → Nat
  | [], a => a
  | l :: ls, a => match a with
    | 0 => 0
    | Nat.succ p => ct_fol T ls (ct_dg T (Nat.add (Nat.mul 4 p) l))
def ct_okE (e p : Nat) : Bool := match e with
  | 0 => true
  | Nat.succ q => Nat.beq q p
def ct_fp (T : Nat) (r : List Nat) : Nat → Nat → Bool
  | 0, _ => true
  | f + 1, p => bif ct_okE (ct_fol T r (Nat.succ p)) p then ct_fp T r f (Nat.succ p) else false
def ct_fits (T P : Nat) : List (List Nat) → Bool
  | [] => true
  | r :: rs => bif ct_fp T r P 0 then ct_fits T P rs else false
/-- the first open ce (20: none) -/
def ct_fo (T m : Nat) : Nat → Nat → Nat
  | 0, _ => 20
  | f + 1, c => bif Nat.ble m c then 20 else bif Nat.beq (ct_dg T c) 0 then c else ct_fo T m f (Nat.succ c)
/-- digits put together, the first one highest -/
def ct_pk (g : Nat → Nat) (m : Nat) : Nat → Nat → Nat → Nat
  | 0, _, a => a
  | f + 1, c, a => ct_fc (Nat.add (Nat.mul 8 a) (bif Nat.ble m c then 0 else g c)) fun a' => ct_pk g m f (Nat.succ c) a'
def ct_put (T c i : Nat) : Nat := Nat.add (Nat.add T (Nat.mul (Nat.succ i) (Nat.pow 8 c))) (Nat.mul (Nat.succ (Nat.div c 4)) (Nat.pow 8 (Nat.add (Nat.mul 4 i) (ct_l c))))
def ct_kp {α : Type} (T P n c : Nat) (acc : List Nat) (k : List Nat → Option α) : Option α :=
  bif Nat.ble 20 c then (bif Nat.beq P n then (bif Nat.ble 500 acc.length then none else ct_fc (ct_pk (fun x => Nat.pred (ct_dg T x)) (Nat.mul 4 P) 20 0 0) fun a => k (a :: acc)) else k acc) else k acc
def ct_pop {α : Type} (stk : List (Nat × Nat × Nat × Nat)) (a : Option α) (k : Nat → Nat → Nat → Nat → List (Nat × Nat × Nat × Nat) → Option α) : Option α := match stk with
  | [] => a
  | (c, i, P0, T0) :: s => k c i P0 T0 s
/-- the search -/
def ct_run (R : List (List Nat)) (n : Nat) : Nat → Nat → Nat → List (Nat × Nat × Nat × Nat) → Nat → Nat → Nat → List Nat → Option (List Nat)
  | 0, _, _, _, _, _, _, _ => none
  | f + 1, T, P, stk, d, ce, fr, acc =>
    ct_fc (bif Nat.ble 20 ce then 9 else ct_nf T (ct_l ce) fr P n 7 fr) fun im =>
    bif Nat.ble 9 im then
      ct_pop stk (some acc) fun c i P0 T0 s => ct_run R n f T0 P0 s (Nat.pred d) c (Nat.succ i) acc
    else bif Nat.ble 20 d then none else
      ct_fc (ct_put T ce im) fun T1 =>
      ct_fc (bif Nat.beq im P then Nat.succ P else P) fun P1 =>
      bif ct_fits T1 P1 R then
        ct_fc (ct_fo T1 (Nat.mul 4 P1) 21 0) fun c1 =>
        ct_kp T1 P1 n c1 acc fun acc' => ct_run R n f T1 P1 ((ce, im, P, T) :: stk) (Nat.succ d) c1 0 acc'
      else ct_run R n f T P stk d ce (Nat.succ im) acc
def ct_find (R : List (List Nat)) (n : Nat) : Option (List Nat) := match ct_run R n 2400 0 1 [] 0 0 0 [] with
  | none => none
  | some a => some a.reverse
/-- the image in a table -/
def ct_im (cd p l : Nat) : Nat := Nat.mod (Nat.div cd (Nat.pow 8 (Nat.sub 19 (Nat.add (Nat.mul 4 p) l)))) 8
/-- numbering anew: fuel, q, met, order, place, other -/
def ct_num (cd n : Nat) : Nat → Nat → Nat → Nat → Nat → Nat → Option Nat
  | 0, _, _, _, _, o => some o
  | f + 1, q, met, od, pl, o =>
    bif Nat.ble met (Nat.div q 4) then none else
    ct_fc (ct_im cd (ct_dg od (Nat.div q 4)) (Nat.mod q 4)) fun im =>
    bif Nat.ble n im then none else
    ct_fc (ct_dg pl im) fun v =>
    bif Nat.beq v 0 then
      bif Nat.ble 5 met then none else
      ct_fc (Nat.add od (Nat.mul im (Nat.pow 8 met))) fun od' =>
      ct_fc (Nat.add pl (Nat.mul (Nat.succ met) (Nat.pow 8 im))) fun pl' =>
      ct_fc (Nat.add o (Nat.mul met (Nat.pow 8 q))) fun o' =>
      ct_num cd n f (Nat.succ q) (Nat.succ met) od' pl' o'
    else
      ct_fc (Nat.add o (Nat.mul (Nat.pred v) (Nat.pow 8 q))) fun o' => ct_num cd n f (Nat.succ q) met od pl o'
/-- 0: less, 1: the same, 2: greater, 9: a check fell -/
def ct_cmp (cd n p : Nat) : Nat := match ct_num cd n (Nat.mul 4 n) 0 1 p (Nat.pow 8 p) 0 with
  | none => 9
  | some o => ct_fc (ct_pk (fun x => ct_dg o x) (Nat.mul 4 n) 20 0 0) fun a => bif Nat.ble cd a then (bif Nat.beq a cd then 1 else 2) else 0
def ct_ev (t : Nat → Bool) (cd n : Nat) : Nat → Nat → Bool → Option Bool
  | 0, _, b => some b
  | f + 1, p, b => ct_fc (ct_cmp cd n p) fun w => bif Nat.ble 9 w then none else
      bif b then (bif t w then ct_ev t cd n f (Nat.succ p) true else ct_ev t cd n f (Nat.succ p) false) else ct_ev t cd n f (Nat.succ p) false
def ct_cnt (t : Nat → Bool) (n : Nat) : List Nat → Nat → Option Nat
  | [], s => some s
  | c :: cs, s => match ct_ev t c n n 0 true with
    | none => none
    | some b => bif b then ct_cnt t n cs (Nat.succ s) else ct_cnt t n cs s
def ct_tE (w : Nat) : Bool := Nat.beq w 1
def ct_tK (w : Nat) : Bool := Nat.ble 1 w
/-- a word in a table (9: a check fell) -/
def ct_wd (cd : Nat) : List Nat → Nat → Nat
  | [], a => a
  | l :: ls, a => bif Nat.ble 5 a then 9 else ct_fc (ct_im cd a l) fun a' => ct_wd cd ls a'
def ct_fx (W : List Nat) : List Nat → Nat → Option Nat
  | [], s => some s
  | c :: cs, s => ct_fc (ct_wd c W 0) fun w => bif Nat.ble 9 w then none else bif Nat.beq w 0 then ct_fx W cs (Nat.succ s) else ct_fx W cs s
/-- the period (0: a check fell) -/
def ct_pe (cd : Nat) (W : List Nat) : Nat → Nat → Nat → Nat
  | 0, _, _ => 0
  | f + 1, m, a => bif Nat.ble 9 a then 0 else bif Nat.beq a 0 then m else bif Nat.ble 5 m then m else ct_fc (ct_wd cd W a) fun a' => ct_pe cd W f (Nat.succ m) a'
/-- the sum of the divisors of s up to k -/
def ct_sg (s : Nat) : Nat → Nat
  | 0 => 0
  | k + 1 => ct_sg s k + (bif Nat.beq (s % (k + 1)) 0 then k + 1 else 0)
def ct_dt (x y d e : Nat) : Nat → Nat
  | 0 => 0
  | t + 1 => ct_dt x y d e t + (bif Nat.beq (x % d) 0 then (bif Nat.beq (y % e) 0 then (bif Nat.beq (t * (y / e) % d) 0 then 1 else 0) else 0) else 0)
def ct_du (s x y : Nat) : Nat → Nat
  | 0 => 0
  | k + 1 => ct_du s x y k + (bif Nat.beq (s % (k + 1)) 0 then ct_dt x y (k + 1) (s / (k + 1)) (k + 1) else 0)
def ct_is (o : Option Nat) (n : Nat) : Bool := match o with
  | none => false
  | some m => Nat.beq m n
def ct_le2 (o p : Option Nat) : Bool := match o with
  | none => false
  | some m => match p with
    | none => false
    | some k => Nat.ble m k
def ct_pes (s x : Nat) : List Nat → Bool
  | [] => true
  | c :: cs => ct_fc (ct_pe c [0] 6 1 (ct_wd c [0] 0)) fun p => bif Nat.ble 1 p then (bif Nat.beq (s % p) 0 then (bif Nat.beq (x % p) 0 then ct_pes s x cs else false) else false) else false
/-- the commutator -/
def ct_com (t : Nat) : List Nat := bif Nat.beq t 0 then [0, 2, 1, 3] else [1, 2, 0, 3]
def ct_rp (l : Nat) : Nat → List Nat
  | 0 => []
  | n + 1 => l :: ct_rp l n
/-- the first phase's checks -/
def ct_P1 (t n : Nat) : Bool := match ct_find [ct_com t] n with
  | none => false
  | some F => (Nat.beq F.length (ct_sg n n) && ct_is (ct_cnt ct_tK n F 0) (ct_sg n n)) && ct_is (ct_cnt ct_tE n F 0) (ct_sg n n)
/-- the second phase's checks -/
def ct_P2 (t x y n : Nat) : Bool := match ct_find [ct_com t, ct_rp 0 x, ct_rp 2 y] n with
  | none => false
  | some F => (((Nat.beq F.length (ct_du n x y n) && ct_is (ct_cnt ct_tE n F 0) F.length) && ct_is (ct_cnt ct_tK n F 0) F.length) && ct_is (ct_fx (ct_rp 2 y) F 0) F.length) && ct_pes n x F
/-- the third phase's checks -/
def ct_P3 (x y n : Nat) : Bool := match ct_find [ct_rp 0 x, ct_rp 2 y] n with
  | none => false
  | some F => (Nat.ble (ct_du n x y n) F.length && Nat.ble F.length 500) && ct_le2 (ct_cnt ct_tE n F 0) (ct_cnt ct_tK n F 0)
def ct_upto (p : Nat → Bool) : Nat → Bool
  | 0 => true
  | n + 1 => bif p (n + 1) then ct_upto p n else false
theorem ct_upto_at {p : Nat → Bool} : ∀ {n : Nat}, ct_upto p n = true → ∀ k, 1 ≤ k → k ≤ n → p k = true := by
  intro n
  induction n with
  | zero => intro _ k h1 h2; omega
  | succ n ih =>
    intro h k h1 h2
    unfold ct_upto at h
    cases hp : p (n + 1) with
    | false => rw [hp] at h; exact absurd h Bool.false_ne_true
    | true =>
      rw [hp] at h
      by_cases e : k = n + 1
      · rw [e]; exact hp
      · exact ih h k h1 (by omega)
end
section
/-! The pure checks, computed by the kernel. -/
theorem ct_all1_0 : ct_upto (fun n => ct_P1 0 n) 5 = true := by decide +kernel
theorem ct_all1_1 : ct_upto (fun n => ct_P1 1 n) 5 = true := by decide +kernel
theorem ct_all2_0 : ct_upto (fun x => ct_upto (fun y => ct_upto (fun n => ct_P2 0 x y n) 5) 6) 6 = true := by decide +kernel
theorem ct_all2_1 : ct_upto (fun x => ct_upto (fun y => ct_upto (fun n => ct_P2 1 x y n) 5) 6) 6 = true := by decide +kernel
theorem ct_all3 : ct_upto (fun x => ct_upto (fun y => ct_upto (fun n => ct_P3 x y n) 5) 6) 6 = true := by decide +kernel
end
section
/-! Digits, bytes, words. -/
theorem ct_bt {a b : Nat} (h : a ≤ b) : Nat.ble a b = true := Nat.ble_eq_true_of_le h
theorem ct_bf {a b : Nat} (h : b < a) : Nat.ble a b = false := by
  cases e : Nat.ble a b with
  | false => rfl
  | true => exact absurd (Nat.le_of_ble_eq_true e) (by omega)
theorem ct_et {a b : Nat} (h : a = b) : Nat.beq a b = true := by
  rw [h]; exact Nat.beq_refl b
theorem ct_ef {a b : Nat} (h : a ≠ b) : Nat.beq a b = false := by
  cases e : Nat.beq a b with
  | false => rfl
  | true => exact absurd (Nat.eq_of_beq_eq_true e) h
theorem ct_dg_eq (T c : Nat) : ct_dg T c = T / 8 ^ c % 8 := rfl
theorem ct_dg_lt (T c : Nat) : ct_dg T c < 8 := Nat.mod_lt _ (by decide)
theorem ct_dg_zero (c : Nat) : ct_dg 0 c = 0 := by rw [ct_dg_eq, Nat.zero_div]
theorem ct_dg_add {T c v : Nat} (h : ct_dg T c = 0) (hv : v < 8) (d : Nat) : ct_dg (T + v * 8 ^ c) d = if d = c then v else ct_dg T d := by
  rw [ct_dg_eq] at h
  rw [ct_dg_eq, ct_dg_eq]
  have hp : ∀ k : Nat, 0 < 8 ^ k := fun k => Nat.pow_pos (by decide)
  rcases Nat.lt_trichotomy d c with g | g | g
  · rw [if_neg (by omega)]
    obtain ⟨e, rfl⟩ : ∃ e, c = d + (e + 1) := ⟨c - d - 1, by omega⟩
    have e1 : v * 8 ^ (d + (e + 1)) = (8 * (v * 8 ^ e)) * 8 ^ d := by
      rw [Nat.pow_add, Nat.pow_succ]
      simp only [Nat.mul_assoc, Nat.mul_comm, Nat.mul_left_comm]
    rw [e1, Nat.add_mul_div_right _ _ (hp d), Nat.add_mul_mod_self_left]
  · subst g
    rw [if_pos rfl, Nat.add_mul_div_right _ _ (hp d)]
    omega
  · rw [if_neg (by omega)]
    obtain ⟨e, rfl⟩ : ∃ e, d = c + (e + 1) := ⟨d - c - 1, by omega⟩
    have q : ∀ X : Nat, X / 8 ^ (c + (e + 1)) = X / 8 ^ c / 8 / 8 ^ e := fun X => by
      rw [Nat.div_div_eq_div_mul, Nat.div_div_eq_div_mul, Nat.pow_add, Nat.pow_succ', ← Nat.mul_assoc]
    rw [q, q, Nat.add_mul_div_right _ _ (hp c)]
    have e2 : (T / 8 ^ c + v) / 8 = T / 8 ^ c / 8 := by omega
    rw [e2]
/-- a cell's value: -1 for no image -/
def ct_v (d : Nat) : Int32 := nI d - 1
theorem ct_v0 : ct_v 0 = -1 := by decide
theorem ct_vs (i : Nat) : ct_v (i + 1) = nI i := nI_pred i
theorem ct_vif {x : Int32} {A B : Prop} (d : Nat) (hx : x = ct_v d) (hd : d < 9) (f : d ≠ 0 → A) (g : d = 0 → B) : (0 ≤ x → A) ∧ (¬ 0 ≤ x → B) := by
  subst hx
  cases d with
  | zero => exact ⟨fun z => absurd z (by decide), fun _ => g rfl⟩
  | succ i => rw [ct_vs]; exact ⟨fun _ => f (by omega), fun z => absurd (nI_pos' (by omega)) z⟩
theorem ct_vneg {x : Int32} {A B : Prop} (d : Nat) (hx : x = ct_v d) (hd : d < 9) (f : d = 0 → A) (g : d ≠ 0 → B) : (x < 0 → A) ∧ (¬ x < 0 → B) := by
  subst hx
  cases d with
  | zero => exact ⟨fun _ => f rfl, fun z => absurd (by decide) z⟩
  | succ i => rw [ct_vs]; exact ⟨fun z => absurd z (nI_pos (by omega)), fun _ => g (by omega)⟩
theorem ct_b8 : ∀ i, i < 128 → (nI i).toInt8.toInt32 = nI i := by decide +kernel
theorem ct_vb {i : Nat} (h : i < 128) : vp_nar .byte (nI i) = nI i := by rw [vp_nar_byte, ct_b8 i h]
theorem ct_xl : ∀ c, c < 20 → (nI c &&& 3) ^^^ 1 = nI (ct_l c) := by decide +kernel
theorem ct_l_lt : ∀ c, c < 20 → ct_l c < 4 := by decide +kernel
theorem ct_l_ne : ∀ c, c < 20 → ct_l c ≠ c % 4 := by decide +kernel
theorem ct_sh2 : ∀ c, c < 20 → nI c >>> ((2 : Int32) &&& 31) = nI (c / 4) := by decide +kernel
theorem ct_a3 : ∀ c, c < 20 → nI c &&& 3 = nI (c % 4) := by decide +kernel
theorem ct_4 (p l : Nat) : (4 * nI p) + nI l = nI (4 * p + l) := by
  rw [show (4 : Int32) = nI 4 from rfl, pk_mul, nI_add]
theorem ct_4m (p : Nat) : 4 * nI p = nI (4 * p) := by
  rw [show (4 : Int32) = nI 4 from rfl, pk_mul]
theorem ct_8 (p l : Nat) : (8 * nI p) + nI l = nI (8 * p + l) := by
  rw [show (8 : Int32) = nI 8 from rfl, pk_mul, nI_add]
theorem ct_at {a : Nat → Int32} {x : Int32} {k : Nat} {v : Int32} (hx : x = nI k) (hk : k < 2 ^ 31) (h : a k = v) : a x.toNatClampNeg = v := by
  subst hx
  rw [nI_clamp hk]; exact h
/-- a stretch of an array holds a word -/
def ct_W (a : Nat → Int32) : Nat → List Nat → Prop
  | _, [] => True
  | o, l :: ls => (a o = nI l ∧ l < 4) ∧ ct_W a (o + 1) ls
/-- the relators from the k-th on -/
def ct_R (a2 a3 : Nat → Int32) : Nat → List (List Nat) → Prop
  | _, [] => True
  | k, r :: rs => (a2 k = nI r.length ∧ r.length ≤ 8 ∧ ct_W a3 (8 * k) r) ∧ ct_R a2 a3 (k + 1) rs
/-- an array holds tables -/
def ct_A (a8 : Nat → Int64) : Nat → List Nat → Prop
  | _, [] => True
  | o, c :: cs => (a8 o = lN c ∧ c < 2 ^ 60) ∧ ct_A a8 (o + 1) cs
/-- the same, the last one first -/
def ct_Ar (a8 : Nat → Int64) : List Nat → Prop
  | [] => True
  | c :: cs => (a8 cs.length = lN c ∧ c < 2 ^ 60) ∧ ct_Ar a8 cs
theorem ct_A_snoc {a8 : Nat → Int64} {c : Nat} : ∀ (l : List Nat) (o : Nat), ct_A a8 o l → a8 (o + l.length) = lN c → c < 2 ^ 60 → ct_A a8 o (l ++ [c]) := by
  intro l
  induction l with
  | nil => intro o _ h hc; exact ⟨⟨h, hc⟩, trivial⟩
  | cons x xs ih =>
    intro o h h2 hc
    refine ⟨h.1, ih (o + 1) h.2 ?_ hc⟩
    rw [show o + 1 + xs.length = o + (x :: xs).length from by rw [List.length_cons]; omega]
    exact h2
theorem ct_Ar_rev {a8 : Nat → Int64} : ∀ l : List Nat, ct_Ar a8 l → ct_A a8 0 l.reverse := by
  intro l
  induction l with
  | nil => intro _; exact trivial
  | cons x xs ih =>
    intro h
    rw [List.reverse_cons]
    refine ct_A_snoc _ 0 (ih h.2) ?_ h.1.2
    rw [List.length_reverse, Nat.zero_add]
    exact h.1.1
theorem ct_Ar_up {a8 : Nat → Int64} {k : Nat} {x : Int64} : ∀ l : List Nat, l.length ≤ k → ct_Ar a8 l → ct_Ar (vp_updL a8 k x) l := by
  intro l
  induction l with
  | nil => intro _ _; exact trivial
  | cons c cs ih =>
    intro hk h
    rw [List.length_cons] at hk
    refine ⟨⟨?_, h.1.2⟩, ih (by omega) h.2⟩
    rw [pk_uLn (by omega)]
    exact h.1.1
theorem ct_W_at {a : Nat → Int32} : ∀ (ls : List Nat) (o : Nat), ct_W a o ls → ∀ (a' : Nat → Int32) (o' : Nat), (∀ j, j < ls.length → a' (o' + j) = a (o + j)) → ct_W a' o' ls := by
  intro ls
  induction ls with
  | nil => intro o _ a' o' _; exact trivial
  | cons l ls ih =>
    intro o h a' o' e
    refine ⟨⟨(e 0 (by rw [List.length_cons]; omega)).trans h.1.1, h.1.2⟩, ih (o + 1) h.2 a' (o' + 1) (fun j hj => ?_)⟩
    have t := e (j + 1) (by rw [List.length_cons]; omega)
    rw [show o' + 1 + j = o' + (j + 1) from by omega, show o + 1 + j = o + (j + 1) from by omega]
    exact t
theorem ct_W_snoc {a : Nat → Int32} {l : Nat} : ∀ (ls : List Nat) (o : Nat), ct_W a o ls → a (o + ls.length) = nI l → l < 4 → ct_W a o (ls ++ [l]) := by
  intro ls
  induction ls with
  | nil => intro o _ h hl; exact ⟨⟨h, hl⟩, trivial⟩
  | cons x xs ih =>
    intro o h h2 hl
    refine ⟨h.1, ih (o + 1) h.2 ?_ hl⟩
    rw [show o + 1 + xs.length = o + (x :: xs).length from by rw [List.length_cons]; omega]
    exact h2
theorem ct_R_keep {a2 a3 b2 b3 : Nat → Int32} : ∀ (rs : List (List Nat)) (k m : Nat), k + rs.length ≤ m → ct_R a2 a3 k rs → (∀ j, j < m → b2 j = a2 j) → (∀ j, j < 8 * m → b3 j = a3 j) → ct_R b2 b3 k rs := by
  intro rs
  induction rs with
  | nil => intro k m _ _ _ _; exact trivial
  | cons r rs ih =>
    intro k m hm h e2 e3
    rw [List.length_cons] at hm
    refine ⟨⟨(e2 k (by omega)).trans h.1.1, h.1.2.1, ct_W_at r _ h.1.2.2 b3 _ (fun j hj => e3 _ ?_)⟩, ih (k + 1) m (by omega) h.2 e2 e3⟩
    have := h.1.2.1
    omega
theorem ct_R_snoc {a2 a3 : Nat → Int32} {r : List Nat} : ∀ (rs : List (List Nat)) (k : Nat), ct_R a2 a3 k rs → a2 (k + rs.length) = nI r.length → r.length ≤ 8 → ct_W a3 (8 * (k + rs.length)) r → ct_R a2 a3 k (rs ++ [r]) := by
  intro rs
  induction rs with
  | nil => intro k _ h1 h2 h3; exact ⟨⟨h1, h2, h3⟩, trivial⟩
  | cons x xs ih =>
    intro k h h1 h2 h3
    have e : k + 1 + xs.length = k + (x :: xs).length := by rw [List.length_cons]; omega
    refine ⟨h.1, ih (k + 1) h.2 ?_ h2 ?_⟩
    · rw [e]; exact h1
    · rw [e]; exact h3
/-- a table that is well formed -/
def ct_G (T P : Nat) : Prop := (1 ≤ P ∧ P ≤ 5) ∧ (∀ c, 4 * P ≤ c → ct_dg T c = 0) ∧ (∀ c, ct_dg T c ≤ P)
theorem ct_put_dg {T c i : Nat} (hc : c < 20) (hi : i < 5) (h1 : ct_dg T c = 0) (h2 : ct_dg T (4 * i + ct_l c) = 0) (x : Nat) :
    ct_dg (ct_put T c i) x = if x = 4 * i + ct_l c then c / 4 + 1 else if x = c then i + 1 else ct_dg T x := by
  have hne : 4 * i + ct_l c ≠ c := by
    have := ct_l_ne c hc
    have := ct_l_lt c hc
    omega
  have e1 : ∀ y, ct_dg (T + (i + 1) * 8 ^ c) y = if y = c then i + 1 else ct_dg T y := ct_dg_add h1 (by omega)
  have e2 : ct_dg (T + (i + 1) * 8 ^ c) (4 * i + ct_l c) = 0 := by rw [e1, if_neg hne, h2]
  have e3 := ct_dg_add e2 (show c / 4 + 1 < 8 by omega) x
  rw [e1] at e3
  exact e3
end
section
/-! The small methods of the search. -/
theorem ct_open {post : St2 → Prop} {f0 f1 f2 f3 f4 f5 : Int32} {a1 a2 a3 a4 a5 a6 a7 : Nat → Int32} {a8 : Nat → Int64} {a9 a10 a11 a12 a13 : Nat → Int32} {p : Nat} (hp : p < 5)
    (H : ∀ s : Nat → Int32, (∀ l, l < 4 → s (4 * p + l) = -1) → (∀ j, j < 4 * p → s j = a4 j) → post (f0, f1, f2, f3, f4, f5, a1, a2, a3, s, a5, a6, a7, a8, a9, a10, a11, a12, a13)) :
    wpX_openPoint post (f0, f1, f2, f3, f4, f5, a1, a2, a3, a4, a5, a6, a7, a8, a9, a10, a11, a12, a13) (nI p) :=
  pk_loop (fun n i s => wX_openPoint_2 post (nI p) f0 f1 f2 f3 f4 f5 n (nI i) a1 a2 a3 s a5 a6 a7 a8 a9 a10 a11 a12 a13) (fun i s => (∀ l, l < i → s (4 * p + l) = -1) ∧ (∀ j, j < 4 * p → s j = a4 j)) 4 0 a4 (by omega)
    ⟨fun l hl => absurd hl (by omega), fun _ _ => rfl⟩
    (fun n s h => pk_le 4 4 (fun _ => H s h.1 h.2) (fun z => absurd z (by omega)))
    (fun n i s hi h hw => pk_le 4 i (fun z => absurd z (by omega)) (fun _ => ⟨pk_in (4 * p + i) 20 (by omega) (ct_4 p i), nm_r (by rw [ct_4, nI_clamp (by omega)]) (nm_r (nI_1 i) (hw _ ⟨fun l hl => by
      by_cases e : l = i
      · rw [e, pk_us]
      · rw [pk_un (by omega)]; exact h.1 l (by omega), fun j hj => by rw [pk_un (by omega)]; exact h.2 j hj⟩))⟩))
/-- an image as the class gives it: 9 stands for -1 -/
def ct_i (r : Nat) : Int32 := bif Nat.ble 9 r then -1 else nI r
/-- a cell as the class gives it: 20 stands for -1 -/
def ct_c (r : Nat) : Int32 := bif Nat.ble 20 r then -1 else nI r
theorem ct_i_lt {r : Nat} (h : r < 9) : ct_i r = nI r := by unfold ct_i; rw [ct_bf h]; rfl
theorem ct_i_9 : ct_i 9 = -1 := rfl
theorem ct_c_lt {r : Nat} (h : r < 20) : ct_c r = nI r := by unfold ct_c; rw [ct_bf h]; rfl
theorem ct_c_20 : ct_c 20 = -1 := rfl
theorem ct_nf_walk {post : Int32 → Prop} {f0 f1 f2 f3 f4 f5 : Int32} {a1 a2 a3 a4 a5 a6 a7 : Nat → Int32} {a8 : Nat → Int64} {a9 a10 a11 a12 a13 : Nat → Int32} {T P c fr n : Nat} (hG : ct_G T P) (hn : n ≤ 5) (hc : c < 20) (hfr : fr ≤ 5) (hf2 : f2 = nI P) (ht : ∀ j, j < 4 * P → a4 j = ct_v (ct_dg T j)) :
    ∀ (f im : Nat), 1 ≤ f → P < im + f → im ≤ 20 → post (ct_i (ct_nf T (ct_l c) fr P n f im)) → wX_nextFree_3 post (nI c) (nI fr) (nI n) f0 f1 f2 f3 f4 f5 a1 a2 a3 a4 a5 a6 a7 a8 a9 a10 a11 a12 a13 f (nI im) := by
  subst hf2
  have hP := hG.1.2
  have hl := ct_l_lt c hc
  intro f
  induction f with
  | zero =>
    intro im h0 h1 h2 h
    omega
  | succ f ih =>
    intro im h0 h1 h2 h
    rw [ct_nf] at h
    refine pk_le P im (fun z => ?_) (fun z => ?_)
    · rw [ct_bt z] at h
      refine pk_lt P fr (fun g => ?_) (fun g => ?_)
      · rw [ct_bf g] at h
        exact h
      · rw [ct_bt g] at h
        refine pk_le n P (fun k => ?_) (fun k => ?_)
        · rw [ct_bt k] at h
          exact h
        · rw [ct_bf k] at h
          rw [← ct_i_lt (show P < 9 by omega)]
          exact h
    · rw [ct_bf z] at h
      have e : (4 * nI im) + ((nI c &&& 3) ^^^ 1) = nI (4 * im + ct_l c) := by rw [ct_xl c hc, ct_4]
      refine ⟨pk_in (4 * im + ct_l c) 20 (by omega) e, ct_vif (ct_dg T (4 * im + ct_l c)) (ct_at e (by omega) (ht _ (by omega))) (by have := ct_dg_lt T (4 * im + ct_l c); omega) (fun g => ?_) (fun g => ?_)⟩
      · have g' : ct_dg T (Nat.add (Nat.mul 4 im) (ct_l c)) ≠ 0 := g
        rw [ct_ef g'] at h
        exact nm_r (nI_1 im) (ih (im + 1) (by omega) (by omega) (by omega) h)
      · have g' : ct_dg T (Nat.add (Nat.mul 4 im) (ct_l c)) = 0 := g
        rw [ct_et g'] at h
        rw [← ct_i_lt (show im < 9 by omega)]
        exact h
theorem ct_nf_ok {T l P fr n : Nat} : ∀ (f im : Nat), ct_nf T l fr P n f im < 9 → (ct_nf T l fr P n f im < P ∧ ct_dg T (4 * ct_nf T l fr P n f im + l) = 0) ∨ (ct_nf T l fr P n f im = P ∧ P < n) := by
  intro f
  induction f with
  | zero => intro im h; exact absurd h (Nat.lt_irrefl 9)
  | succ f ih =>
    intro im h
    rw [ct_nf] at h ⊢
    rcases Nat.lt_or_ge im P with z | z
    · rw [ct_bf z] at h ⊢
      by_cases g : ct_dg T (Nat.add (Nat.mul 4 im) l) = 0
      · rw [ct_et g]
        exact Or.inl ⟨z, g⟩
      · rw [ct_ef g] at h ⊢
        exact ih _ h
    · rw [ct_bt z] at h ⊢
      rcases Nat.lt_or_ge P fr with g | g
      · rw [ct_bf g] at h
        exact absurd h (Nat.lt_irrefl 9)
      · rw [ct_bt g] at h ⊢
        rcases Nat.lt_or_ge P n with k | k
        · rw [ct_bf k]
          exact Or.inr ⟨rfl, k⟩
        · rw [ct_bt k] at h
          exact absurd h (Nat.lt_irrefl 9)
theorem ct_fo_walk {post : Int32 → Prop} {f0 f1 f2 f3 f4 f5 : Int32} {a1 a2 a3 a4 a5 a6 a7 : Nat → Int32} {a8 : Nat → Int64} {a9 a10 a11 a12 a13 : Nat → Int32} {T P : Nat} (hG : ct_G T P) (hf2 : f2 = nI P) (ht : ∀ j, j < 4 * P → a4 j = ct_v (ct_dg T j)) :
    ∀ (f c : Nat), 4 * P < c + f → c ≤ 4 * P → post (ct_c (ct_fo T (4 * P) f c)) → wX_firstOpen_2 post f0 f1 f2 f3 f4 f5 a1 a2 a3 a4 a5 a6 a7 a8 a9 a10 a11 a12 a13 f (nI c) := by
  subst hf2
  have hP := hG.1.2
  intro f
  induction f with
  | zero =>
    intro c h1 h2 h
    omega
  | succ f ih =>
    intro c h1 h2 h
    rw [ct_fo] at h
    refine pk_le (4 * P) c (fun z => ?_) (fun z => ?_) (ct_4m P)
    · rw [ct_bt z] at h
      exact h
    · rw [ct_bf z] at h
      refine ⟨pk_in c 20 (by omega), ct_vif (ct_dg T c) (ct_at rfl (by omega) (ht _ z)) (by have := ct_dg_lt T c; omega) (fun g => ?_) (fun g => ?_)⟩
      · rw [ct_ef g] at h
        exact nm_r (nI_1 c) (ih (c + 1) (by omega) (by omega) h)
      · rw [ct_et g] at h
        rw [← ct_c_lt (show c < 20 by omega)]
        exact h
theorem ct_fo_ok {T m : Nat} (hm : m ≤ 20) : ∀ (f c : Nat), m < c + f → c ≤ m → (ct_fo T m f c < m ∧ ct_dg T (ct_fo T m f c) = 0) ∨ (ct_fo T m f c = 20 ∧ ∀ j, c ≤ j → j < m → ct_dg T j ≠ 0) := by
  intro f
  induction f with
  | zero => intro c h h2; omega
  | succ f ih =>
    intro c h h2
    rw [ct_fo]
    rcases Nat.lt_or_ge c m with z | z
    · rw [ct_bf z]
      by_cases g : ct_dg T c = 0
      · rw [ct_et g]
        exact Or.inl ⟨z, g⟩
      · rw [ct_ef g]
        rcases ih (c + 1) (by omega) (by omega) with k | k
        · exact Or.inl k
        · refine Or.inr ⟨k.1, fun j h3 h4 => ?_⟩
          by_cases e : j = c
          · rw [e]; exact g
          · exact k.2 j (by omega) h4
    · rw [ct_bt z]
      exact Or.inr ⟨rfl, fun j h3 h4 => absurd h4 (by omega)⟩
theorem ct_fol_walk {post : Int32 → Prop} {f0 f1 f2 f3 f4 f5 : Int32} {a1 a2 a3 a4 a5 a6 a7 : Nat → Int32} {a8 : Nat → Int64} {a9 a10 a11 a12 a13 : Nat → Int32} {T P k : Nat} (hG : ct_G T P) (hk : k < 4) (ht : ∀ j, j < 4 * P → a4 j = ct_v (ct_dg T j)) :
    ∀ (ls : List Nat) (i a : Nat), a ≤ P → ct_W a3 (8 * k + i) ls → a2 k = nI (i + ls.length) → i + ls.length ≤ 8 → post (ct_v (ct_fol T ls a)) → wX_follow_5 post (nI k) f0 f1 f2 f3 f4 f5 a1 a2 a3 a4 a5 a6 a7 a8 a9 a10 a11 a12 a13 (ls.length + 1) (ct_v a) (nI i) := by
  have hP := hG.1.2
  intro ls
  induction ls with
  | nil =>
    intro i a ha hw h2 h3 h
    exact ⟨pk_in k 4 hk, pk_le i i (fun _ => h) (fun z => absurd z (by omega)) (ct_at rfl (by omega) h2)⟩
  | cons l ls ih =>
    intro i a ha hw h2 h3 h
    rw [List.length_cons] at h2 h3
    refine ⟨pk_in k 4 hk, pk_le (i + (ls.length + 1)) i (fun z => absurd z (by omega)) (fun z => ?_) (ct_at rfl (by omega) h2)⟩
    cases a with
    | zero => exact br_t (by decide) h
    | succ p =>
      rw [ct_vs]
      have hl := hw.1.2
      have e3 : a3 ((8 * nI k) + nI i).toNatClampNeg = nI l := ct_at (ct_8 k i) (by omega) hw.1.1
      have e4 : (4 * nI p) + a3 ((8 * nI k) + nI i).toNatClampNeg = nI (4 * p + l) := by rw [e3, ct_4]
      refine br_f (nI_pos (by omega)) ⟨pk_in (8 * k + i) 32 (by omega) (ct_8 k i), pk_in (4 * p + l) 20 (by omega) e4, nm_r (ct_at e4 (by omega) (ht _ (by omega))) (nm_r (nI_1 i) (ih (i + 1) _ (hG.2.2 _) hw.2 ?_ (by omega) h))⟩
      rw [h2]
      congr 1
      omega
theorem ct_fol_le {T P : Nat} (hG : ct_G T P) : ∀ (ls : List Nat) (a : Nat), a ≤ P → ct_fol T ls a ≤ P := by
  intro ls
  induction ls with
  | nil => intro a h; exact h
  | cons l ls ih =>
    intro a h
    cases a with
    | zero => exact h
    | succ p => exact ih _ (hG.2.2 _)
theorem ct_follow {post : Int32 → Prop} {f0 f1 f2 f3 f4 f5 : Int32} {a1 a2 a3 a4 a5 a6 a7 : Nat → Int32} {a8 : Nat → Int64} {a9 a10 a11 a12 a13 : Nat → Int32} {T P k p : Nat} {r : List Nat} (hG : ct_G T P) (hk : k < 4) (ht : ∀ j, j < 4 * P → a4 j = ct_v (ct_dg T j))
    (h2 : a2 k = nI r.length) (h3 : r.length ≤ 8) (hw : ct_W a3 (8 * k) r) (hp : p < P) (H : post (ct_v (ct_fol T r (p + 1)))) : wpX_follow post (f0, f1, f2, f3, f4, f5, a1, a2, a3, a4, a5, a6, a7, a8, a9, a10, a11, a12, a13) (nI k) (nI p) := by
  have t : wX_follow_5 post (nI k) f0 f1 f2 f3 f4 f5 a1 a2 a3 a4 a5 a6 a7 a8 a9 a10 a11 a12 a13 (r.length + 1) (ct_v (p + 1)) (nI 0) := ct_fol_walk hG hk ht r 0 (p + 1) hp (by rw [Nat.add_zero]; exact hw) (by rw [Nat.zero_add, h2]) (by omega) H
  rw [ct_vs] at t
  exact ⟨_, t⟩
theorem ct_fits_in {post : Int32 → Prop} {f0 f1 f2 f3 f4 f5 : Int32} {a1 a2 a3 a4 a5 a6 a7 : Nat → Int32} {a8 : Nat → Int64} {a9 a10 a11 a12 a13 : Nat → Int32} {T P k m : Nat} {r : List Nat} (hG : ct_G T P) (hm : m ≤ 4) (hk : k < m) (hf1 : f1 = nI m) (hf2 : f2 = nI P) (ht : ∀ j, j < 4 * P → a4 j = ct_v (ct_dg T j))
    (h2 : a2 k = nI r.length) (h3 : r.length ≤ 8) (hw : ct_W a3 (8 * k) r) (N : Nat) :
    ∀ (f p : Nat), p + f = P → (ct_fp T r f p = true → wX_fits_2 post f0 f1 f2 f3 f4 f5 a1 a2 a3 a4 a5 a6 a7 a8 a9 a10 a11 a12 a13 N (nI ((k + 1) * P))) → (ct_fp T r f p = false → post 0) → wX_fits_2 post f0 f1 f2 f3 f4 f5 a1 a2 a3 a4 a5 a6 a7 a8 a9 a10 a11 a12 a13 (N + f) (nI (k * P + p)) := by
  subst hf1 hf2
  have hP := hG.1.2
  have hP1 := hG.1.1
  intro f
  induction f with
  | zero =>
    intro p hp ht' hf'
    have e : k * P + p = (k + 1) * P := by rw [Nat.succ_mul]; omega
    rw [e]
    exact ht' rfl
  | succ f ih =>
    intro p hp ht' hf'
    rw [ct_fp] at ht' hf'
    have hkm : (k + 1) * P ≤ m * P := Nat.mul_le_mul_right P hk
    have hm20 : m * P ≤ 4 * 5 := Nat.mul_le_mul hm hP
    rw [Nat.succ_mul] at hkm
    have hne : ¬ nI P = 0 := nI_ne0 (by omega) (by omega)
    have er : nI (k * P + p) - nI (k * P + p) / nI P * nI P = nI p := by
      rw [pk_rem (by omega) (by omega) (by omega), Nat.mul_comm k P, Nat.mul_add_mod, Nat.mod_eq_of_lt (by omega)]
    have ed : nI (k * P + p) / nI P = nI k := by
      rw [pk_div (by omega) (by omega) (by omega), Nat.mul_comm k P, Nat.mul_add_div (by omega), Nat.div_eq_of_lt (by omega), Nat.add_zero]
    refine pk_le (m * P) (k * P + p) (fun z => absurd z (by omega)) (fun _ => ⟨hne, nm_r er ⟨hne, ?_⟩⟩) (pk_mul m P)
    rw [ed]
    refine ct_follow (k := k) hG (by omega) ht h2 h3 hw (by omega) ?_
    have hle : ct_fol T r (Nat.succ p) = ct_fol T r (p + 1) := rfl
    rw [hle] at ht' hf'
    cases he : ct_fol T r (p + 1) with
    | zero =>
      rw [he] at ht' hf'
      exact br_t (by decide) (nm_r (nI_1 _) (ih (p + 1) (by omega) ht' hf'))
    | succ q =>
      rw [he] at ht' hf'
      rw [ct_vs]
      have hq : q < 8 := by have := ct_fol_le hG r (p + 1) (by omega); omega
      refine br_f (nI_pos (by omega)) (pk_eq q p (fun z => ?_) (fun z => ?_))
      · have e : ct_okE (q + 1) p = true := ct_et z
        rw [e] at ht' hf'
        exact nm_r (nI_1 _) (ih (p + 1) (by omega) ht' hf')
      · have e : ct_okE (q + 1) p = false := ct_ef z
        rw [e] at hf'
        exact hf' rfl
theorem ct_fits_walk {post : Int32 → Prop} {f0 f1 f2 f3 f4 f5 : Int32} {a1 a2 a3 a4 a5 a6 a7 : Nat → Int32} {a8 : Nat → Int64} {a9 a10 a11 a12 a13 : Nat → Int32} {T P m : Nat} (hG : ct_G T P) (hm : m ≤ 4) (hf1 : f1 = nI m) (hf2 : f2 = nI P) (ht : ∀ j, j < 4 * P → a4 j = ct_v (ct_dg T j)) :
    ∀ (rs : List (List Nat)) (k : Nat), ct_R a2 a3 k rs → k + rs.length = m → (ct_fits T P rs = true → post 1) → (ct_fits T P rs = false → post 0) → ∃ N, wX_fits_2 post f0 f1 f2 f3 f4 f5 a1 a2 a3 a4 a5 a6 a7 a8 a9 a10 a11 a12 a13 N (nI (k * P)) := by
  intro rs
  induction rs with
  | nil =>
    intro k h hk h1 h0
    have hk' : k = m := hk
    subst hk' hf1 hf2
    have hm20 : k * P ≤ 4 * 5 := Nat.mul_le_mul hm hG.1.2
    exact ⟨1, pk_le (k * P) (k * P) (fun _ => h1 rfl) (fun z => absurd z (by omega)) (pk_mul k P)⟩
  | cons r rs ih =>
    intro k h hk h1 h0
    rw [List.length_cons] at hk
    rw [ct_fits] at h1 h0
    cases e : ct_fp T r P 0 with
    | true =>
      rw [e] at h1 h0
      obtain ⟨N, hN⟩ := ih (k + 1) h.2 (by omega) h1 h0
      exact ⟨N + P, ct_fits_in hG hm (by omega) hf1 hf2 ht h.1.1 h.1.2.1 h.1.2.2 N P 0 (by omega) (fun _ => hN) (fun z => absurd (e.symm.trans z) (by decide))⟩
    | false =>
      rw [e] at h0
      exact ⟨0 + P, ct_fits_in hG hm (by omega) hf1 hf2 ht h.1.1 h.1.2.1 h.1.2.2 0 P 0 (by omega) (fun z => absurd (e.symm.trans z) (by decide)) (fun _ => h0 rfl)⟩
end
section
/-! put, takeBack, packed, keepTable, and the search's loop. -/
theorem ct_put48 {post : St2 → Prop} {f0 f1 f2 f3 f4 f5 : Int32} {a1 a2 a3 a4 a5 a6 a7 : Nat → Int32} {a8 : Nat → Int64} {a9 a10 a11 a12 a13 : Nat → Int32} {c i d : Nat} (hc : c < 20) (hi : i < 5) (hd : d < 20) (hf3 : f3 = nI d)
    (H : post (f0, f1, f2, nI (d + 1), f4, f5, a1, a2, a3, upd (upd a4 c (nI i)) (4 * i + ct_l c) (nI (c / 4)), upd a5 d (nI i), a6, upd a7 d (nI c), a8, a9, a10, a11, a12, a13)) : wX_put_48 post (nI c) (nI i) f0 f1 f2 f3 f4 f5 a1 a2 a3 a4 a5 a6 a7 a8 a9 a10 a11 a12 a13 := by
  subst hf3
  have hl := ct_l_lt c hc
  have e : (4 * nI i) + ((nI c &&& 3) ^^^ 1) = nI (4 * i + ct_l c) := by rw [ct_xl c hc, ct_4]
  exact ⟨pk_in c 20 hc, nm_r (by rw [nI_clamp (by omega), ct_b8 i (by omega)]) (nm_r e ⟨pk_in (4 * i + ct_l c) 20 (by omega), nm_r (by rw [nI_clamp (by omega), ct_sh2 c hc, ct_b8 _ (by omega)])
    ⟨pk_in d 20 hd, nm_r (by rw [nI_clamp (by omega), ct_b8 c (by omega)]) ⟨pk_in d 20 hd, nm_r (by rw [nI_clamp (by omega), ct_b8 i (by omega)]) (nm_r (nI_1 d) H)⟩⟩⟩)⟩
theorem ct_put_tab {T P c i : Nat} {a4 : Nat → Int32} (hc : c < 20) (hi : i < 5) (h1 : ct_dg T c = 0) (h2 : ct_dg T (4 * i + ct_l c) = 0) (ht : ∀ j, j < 4 * P → a4 j = ct_v (ct_dg T j)) :
    ∀ j, j < 4 * P → upd (upd a4 c (nI i)) (4 * i + ct_l c) (nI (c / 4)) j = ct_v (ct_dg (ct_put T c i) j) := by
  intro j hj
  rw [ct_put_dg hc hi h1 h2]
  by_cases e : j = 4 * i + ct_l c
  · rw [if_pos e, e, pk_us, ct_vs]
  · rw [if_neg e, pk_un e]
    by_cases e' : j = c
    · rw [if_pos e', e', pk_us, ct_vs]
    · rw [if_neg e', pk_un e']
      exact ht j hj
theorem ct_put_G {T P c i : Nat} (hG : ct_G T P) (hc : c < 4 * P) (hi : i ≤ P) (hi5 : i < 5) (h1 : ct_dg T c = 0) (h2 : ct_dg T (4 * i + ct_l c) = 0) :
    ct_G (ct_put T c i) (if i = P then P + 1 else P) := by
  have hP := hG.1.2
  have hl := ct_l_lt c (by omega)
  refine ⟨⟨?_, ?_⟩, fun x hx => ?_, fun x => ?_⟩
  · have := hG.1.1
    split <;> omega
  · split <;> omega
  · have hx' : 4 * P ≤ x ∧ (i = P → 4 * P + 4 ≤ x) := by
      by_cases e : i = P
      · rw [if_pos e] at hx; exact ⟨by omega, fun _ => by omega⟩
      · rw [if_neg e] at hx; exact ⟨hx, fun z => absurd z e⟩
    rw [ct_put_dg (by omega) hi5 h1 h2, if_neg, if_neg (by omega)]
    · exact hG.2.1 x hx'.1
    · by_cases e : i = P
      · have := hx'.2 e; omega
      · omega
  · have hx := hG.2.2 x
    rw [ct_put_dg (by omega) hi5 h1 h2]
    have h4 : c / 4 + 1 ≤ P := by omega
    split
    · split <;> omega
    · split
      · split <;> omega
      · split <;> omega
theorem ct_nb1 : vp_nar .boolean 1 = 1 := by decide
theorem ct_nb0 : vp_nar .boolean 0 = 0 := by decide
theorem ct_put_walk {post : St2 → Prop} {f0 f1 f2 f3 f4 f5 : Int32} {a1 a2 a3 a4 a5 a6 a7 : Nat → Int32} {a8 : Nat → Int64} {a9 a10 a11 a12 a13 : Nat → Int32} {T P c i d : Nat} (hG : ct_G T P) (hc : c < 4 * P) (hi : i ≤ P) (hi5 : i < 5) (h1 : ct_dg T c = 0) (h2 : ct_dg T (4 * i + ct_l c) = 0) (hd : d < 20)
    (hf2 : f2 = nI P) (hf3 : f3 = nI d) (ht : ∀ j, j < 4 * P → a4 j = ct_v (ct_dg T j))
    (H : ∀ s : Nat → Int32, (∀ j, j < 4 * (if i = P then P + 1 else P) → s j = ct_v (ct_dg (ct_put T c i) j)) →
      post (f0, f1, nI (if i = P then P + 1 else P), nI (d + 1), f4, f5, a1, a2, a3, s, upd a5 d (nI i), upd a6 d (if i = P then 1 else 0), upd a7 d (nI c), a8, a9, a10, a11, a12, a13)) :
    wpX_put post (f0, f1, f2, f3, f4, f5, a1, a2, a3, a4, a5, a6, a7, a8, a9, a10, a11, a12, a13) (nI c) (nI i) := by
  subst hf2 hf3
  have hP := hG.1.2
  have hc20 : c < 20 := by omega
  refine pk_eq i P (fun e => ?_) (fun e => ?_)
  · rw [if_pos e, if_pos e] at H
    refine ⟨pk_in d 20 hd, nm_r (show _ = upd a6 d 1 by rw [nI_clamp (by omega), ct_nb1]) (br_t (by rw [e]) (ct_open (p := P) (by omega) (fun s hs1 hs2 => nm_r (nI_1 P) (ct_put48 hc20 hi5 hd rfl (H _ (ct_put_tab hc20 hi5 h1 h2 (fun j hj => ?_)))))))⟩
    by_cases g : j < 4 * P
    · rw [hs2 j g]
      exact ht j g
    · have t := hs1 (j - 4 * P) (by omega)
      rw [show 4 * P + (j - 4 * P) = j from by omega] at t
      rw [t, hG.2.1 j (by omega)]
      rfl
  · rw [if_neg e, if_neg e] at H
    exact ⟨pk_in d 20 hd, nm_r (show _ = upd a6 d 0 by rw [nI_clamp (by omega), ct_nb0]) (pk_eq i P (fun z => absurd z e) (fun _ => ct_put48 hc20 hi5 hd rfl (H _ (ct_put_tab hc20 hi5 h1 h2 ht))))⟩
theorem ct_tb_walk {post : Int32 → St2 → Prop} {f0 f1 f2 f3 f4 f5 : Int32} {a1 a2 a3 a4 a5 a6 a7 : Nat → Int32} {a8 : Nat → Int64} {a9 a10 a11 a12 a13 : Nat → Int32} {T P c i d : Nat} (hG : ct_G T P) (hc : c < 4 * P) (hi : i ≤ P) (hi5 : i < 5) (h1 : ct_dg T c = 0) (h2 : ct_dg T (4 * i + ct_l c) = 0) (hd : d < 20)
    (hf2 : f2 = nI (if i = P then P + 1 else P)) (hf3 : f3 = nI (d + 1)) (ht : ∀ j, j < 4 * (if i = P then P + 1 else P) → a4 j = ct_v (ct_dg (ct_put T c i) j))
    (h5 : a5 d = nI i) (h6 : a6 d = if i = P then 1 else 0) (h7 : a7 d = nI c)
    (H : ∀ s : Nat → Int32, (∀ j, j < 4 * P → s j = ct_v (ct_dg T j)) → post (nI (i + 1)) (f0, f1, nI P, nI d, f4, f5, a1, a2, a3, s, a5, a6, a7, a8, a9, a10, a11, a12, a13)) :
    wpX_takeBack post (f0, f1, f2, f3, f4, f5, a1, a2, a3, a4, a5, a6, a7, a8, a9, a10, a11, a12, a13) := by
  subst hf2 hf3
  have hP := hG.1.2
  have hc20 : c < 20 := by omega
  have hl := ct_l_lt c hc20
  have e : (4 * nI i) + ((nI c &&& 3) ^^^ 1) = nI (4 * i + ct_l c) := by rw [ct_xl c hc20, ct_4]
  have ht' : ∀ j, j < 4 * P → upd (upd a4 c (-1)) (4 * i + ct_l c) (-1) j = ct_v (ct_dg T j) := by
    intro j hj
    by_cases g : j = 4 * i + ct_l c
    · rw [g, pk_us, h2, ct_v0]
    · rw [pk_un g]
      by_cases g' : j = c
      · rw [g', pk_us, h1, ct_v0]
      · rw [pk_un g', ht j (by split <;> omega), ct_put_dg hc20 hi5 h1 h2, if_neg g, if_neg g']
  refine nm_r (nI_pred d) ⟨pk_in d 20 hd, nm_r (ct_at rfl (by omega) h7) ⟨pk_in d 20 hd, nm_r (ct_at rfl (by omega) h5) (nm_r e ⟨pk_in c 20 hc20, nm_r (show _ = upd a4 c (-1) by rw [nI_clamp (by omega)]) ⟨pk_in (4 * i + ct_l c) 20 (by omega), nm_r (show _ = upd (upd a4 c (-1)) (4 * i + ct_l c) (-1) by rw [nI_clamp (by omega)]) ⟨pk_in d 20 hd, ?_⟩⟩⟩)⟩⟩
  rw [nI_1]
  by_cases g : i = P
  · rw [if_pos g] at h6
    rw [if_pos g]
    exact br_f (by rw [ct_at rfl (by omega) h6]; decide) (nm_r (nI_pred P) (H _ ht'))
  · rw [if_neg g] at h6
    rw [if_neg g]
    exact br_t (ct_at rfl (by omega) h6) (H _ ht')
theorem ct_pk_s (g : Nat → Nat) (m f c a : Nat) : ct_pk g m (f + 1) c a = ct_pk g m f (c + 1) (8 * a + (bif Nat.ble m c then 0 else g c)) := by
  rw [ct_pk, ct_fc_eq]
  rfl
theorem ct_pk_lt {g : Nat → Nat} {m : Nat} (hg : ∀ c, g c < 8) : ∀ (f c a : Nat), a < 8 ^ c → ct_pk g m f c a < 8 ^ (c + f) := by
  intro f
  induction f with
  | zero => intro c a h; exact h
  | succ f ih =>
    intro c a h
    rw [ct_pk_s, show c + (f + 1) = (c + 1) + f from by omega]
    refine ih (c + 1) _ ?_
    have : (bif Nat.ble m c then 0 else g c) < 8 := by
      cases Nat.ble m c with
      | true => exact (by decide : 0 < 8)
      | false => exact hg c
    rw [Nat.pow_succ]
    omega
theorem ct_pk60 {g : Nat → Nat} {m : Nat} (hg : ∀ c, g c < 8) : ct_pk g m 20 0 0 < 2 ^ 60 := ct_pk_lt hg 20 0 0 (by decide)
theorem ct_acc {a d : Nat} (hd : d < 8) : 8 * lN a + (nI d).toInt64 = lN (8 * a + d) := by
  rw [nI_l (by omega), show (8 : Int64) = lN 8 from rfl, lN_mul, lN_add]
theorem ct_pk_walk {post : Int64 → Prop} {f0 f1 f2 f3 f4 f5 : Int32} {a1 a2 a3 a4 a5 a6 a7 : Nat → Int32} {a8 : Nat → Int64} {a9 a10 a11 a12 a13 : Nat → Int32} {P : Nat} {x : Int32} {g : Nat → Nat} (hP : P ≤ 5) (hf2 : f2 = nI P) (hg8 : ∀ c, g c < 8)
    (hg : (x = 0 ∧ ∀ j, j < 4 * P → a4 j = nI (g j)) ∨ (¬ x = 0 ∧ ∀ j, j < 4 * P → a9 j = nI (g j))) :
    ∀ (f c a : Nat), c + f = 20 → post (lN (ct_pk g (4 * P) f c a)) → wX_packed_5 post x f0 f1 f2 f3 f4 f5 a1 a2 a3 a4 a5 a6 a7 a8 a9 a10 a11 a12 a13 (f + 1) (lN a) (nI c) := by
  subst hf2
  intro f
  induction f with
  | zero =>
    intro c a hc h
    exact pk_le 20 c (fun _ => h) (fun z => absurd z (by omega))
  | succ f ih =>
    intro c a hc h
    rw [ct_pk_s] at h
    refine pk_le 20 c (fun z => absurd z (by omega)) (fun _ => pk_lt c (4 * P) (fun z => ?_) (fun z => ?_) rfl (ct_4m P))
    · rw [ct_bf z] at h
      rcases hg with ⟨hx, hg⟩ | ⟨hx, hg⟩
      · exact br_t hx ⟨pk_in c 20 (by omega), nm_r (by rw [nI_clamp (by omega), hg c z, ct_acc (hg8 c)]; rfl) (nm_r (nI_1 c) (ih (c + 1) _ (by omega) h))⟩
      · exact br_f hx ⟨pk_in c 20 (by omega), nm_r (by rw [nI_clamp (by omega), hg c z, ct_acc (hg8 c)]; rfl) (nm_r (nI_1 c) (ih (c + 1) _ (by omega) h))⟩
    · rw [ct_bt z] at h
      exact nm_r (ct_acc (d := 0) (by omega)) (nm_r (nI_1 c) (ih (c + 1) _ (by omega) h))
end
section
/-! keepTable, the search's loop, find. -/
theorem ct_keep_walk {post : St2 → Prop} {f0 f1 f2 f3 f4 f5 : Int32} {a1 a2 a3 a4 a5 a6 a7 : Nat → Int32} {a8 : Nat → Int64} {a9 a10 a11 a12 a13 : Nat → Int32} {T P n : Nat} {acc L : List Nat} {k : List Nat → Option (List Nat)} (hP : P ≤ 5) (hn : n ≤ 5) (hf2 : f2 = nI P) (hf5 : f5 = nI acc.length)
    (hl : acc.length ≤ 500) (ht : ∀ j, j < 4 * P → a4 j = ct_v (ct_dg T j)) (hfull : ∀ j, j < 4 * P → ct_dg T j ≠ 0) (hA : ct_Ar a8 acc) (h : ct_kp T P n 20 acc k = some L)
    (H : ∀ (acc' : List Nat) (b8 : Nat → Int64), ct_Ar b8 acc' → acc'.length ≤ 500 → k acc' = some L → post (f0, f1, f2, f3, f4, nI acc'.length, a1, a2, a3, a4, a5, a6, a7, b8, a9, a10, a11, a12, a13)) :
    wpX_keepTable post (f0, f1, f2, f3, f4, f5, a1, a2, a3, a4, a5, a6, a7, a8, a9, a10, a11, a12, a13) (nI n) := by
  subst hf2 hf5
  unfold ct_kp at h
  rw [ct_bt (Nat.le_refl 20)] at h
  refine pk_eq P n (fun e => ?_) (fun e => ?_)
  · rw [ct_et e] at h
    refine pk_le 500 acc.length (fun z => ?_) (fun z => ?_)
    · rw [ct_bt z] at h
      exact absurd h.symm (Option.some_ne_none L)
    · rw [ct_bf z, ct_fc_eq] at h
      have hg8 : ∀ x, Nat.pred (ct_dg T x) < 8 := fun x => by
        have := ct_dg_lt T x
        have := Nat.pred_le (ct_dg T x)
        omega
      refine ⟨21, ct_pk_walk (g := fun x => Nat.pred (ct_dg T x)) hP rfl hg8 (Or.inl ⟨rfl, fun j hj => ?_⟩) 20 0 0 (by omega) ?_⟩
      · rw [ht j hj]
        have := hfull j hj
        cases e : ct_dg T j with
        | zero => exact absurd e this
        | succ q => rw [ct_vs]; rfl
      · exact ⟨pk_in acc.length 500 z, nm_r (by rw [nI_clamp (by omega)]) (nm_r (nI_1 _) (H (ct_pk (fun x => Nat.pred (ct_dg T x)) (4 * P) 20 0 0 :: acc) _ ⟨⟨pk_uLs, ct_pk60 hg8⟩, ct_Ar_up acc (Nat.le_refl _) hA⟩ (by rw [List.length_cons]; omega) h))⟩
  · rw [ct_ef e] at h
    exact H acc a8 hA hl h
/-- the stack: what was chosen at each depth, and the tables ahead of it -/
def ct_K (a5 a6 a7 : Nat → Int32) (n : Nat) : List (Nat × Nat × Nat × Nat) → Nat → Nat → Prop
  | [], _, _ => True
  | (c, i, P0, T0) :: s, T, P => ((a5 s.length = nI i ∧ a6 s.length = (if i = P0 then 1 else 0) ∧ a7 s.length = nI c) ∧ (ct_G T0 P0 ∧ P0 ≤ n ∧ c < 4 * P0 ∧ i ≤ P0 ∧ i < 5 ∧ ct_dg T0 c = 0 ∧ ct_dg T0 (4 * i + ct_l c) = 0) ∧ T = ct_put T0 c i ∧ P = if i = P0 then P0 + 1 else P0) ∧ ct_K a5 a6 a7 n s T0 P0
theorem ct_K_up {a5 a6 a7 : Nat → Int32} {n k : Nat} {x y z : Int32} : ∀ (s : List (Nat × Nat × Nat × Nat)) (T P : Nat), s.length ≤ k → ct_K a5 a6 a7 n s T P → ct_K (upd a5 k x) (upd a6 k y) (upd a7 k z) n s T P := by
  intro s
  induction s with
  | nil => intro T P _ _; exact trivial
  | cons q s ih =>
    obtain ⟨c, i, P0, T0⟩ := q
    intro T P hk h
    rw [List.length_cons] at hk
    refine ⟨⟨⟨?_, ?_, ?_⟩, h.1.2⟩, ih T0 P0 (by omega) h.2⟩
    · rw [pk_un (by omega)]; exact h.1.1.1
    · rw [pk_un (by omega)]; exact h.1.1.2.1
    · rw [pk_un (by omega)]; exact h.1.1.2.2
theorem ct_fits_wp {post : Int32 → Prop} {f0 f1 f2 f3 f4 f5 : Int32} {a1 a2 a3 a4 a5 a6 a7 : Nat → Int32} {a8 : Nat → Int64} {a9 a10 a11 a12 a13 : Nat → Int32} {T P : Nat} {R : List (List Nat)} (hG : ct_G T P) (hm : R.length ≤ 4) (hf1 : f1 = nI R.length) (hf2 : f2 = nI P) (ht : ∀ j, j < 4 * P → a4 j = ct_v (ct_dg T j))
    (hR : ct_R a2 a3 0 R) (h1 : ct_fits T P R = true → post 1) (h0 : ct_fits T P R = false → post 0) : wpX_fits post (f0, f1, f2, f3, f4, f5, a1, a2, a3, a4, a5, a6, a7, a8, a9, a10, a11, a12, a13) := by
  obtain ⟨N, t⟩ := ct_fits_walk (post := post) (f0 := f0) (f3 := f3) (f4 := f4) (f5 := f5) (a1 := a1) (a5 := a5) (a6 := a6) (a7 := a7) (a8 := a8) (a9 := a9) (a10 := a10) (a11 := a11) (a12 := a12) (a13 := a13) hG hm hf1 hf2 ht R 0 hR (by omega) h1 h0
  rw [Nat.zero_mul] at t
  exact ⟨N, t⟩
theorem ct_loop {post : St2 → Prop} {f0 f1 f4 : Int32} {a1 a2 a3 a9 a10 a11 a12 a13 : Nat → Int32} {n : Nat} {R : List (List Nat)} {L : List Nat} (hn : n ≤ 5) (hR : ct_R a2 a3 0 R) (hm : R.length ≤ 4) (hf1 : f1 = nI R.length)
    (H : ∀ (f2 f3 : Int32) (a4 a5 a6 a7 : Nat → Int32) (a8 : Nat → Int64), ct_Ar a8 L → L.length ≤ 500 → post (f0, f1, f2, f3, f4, nI L.length, a1, a2, a3, a4, a5, a6, a7, a8, a9, a10, a11, a12, a13)) :
    ∀ (f T P : Nat) (stk : List (Nat × Nat × Nat × Nat)) (d ce fr : Nat) (acc : List Nat) (f2 f3 f5 : Int32) (a4 a5 a6 a7 : Nat → Int32) (a8 : Nat → Int64),
      ct_run R n f T P stk d ce fr acc = some L → ct_G T P → P ≤ n → stk.length = d → d ≤ 20 → (ce < 20 → ce < 4 * P ∧ ct_dg T ce = 0) → ce ≤ 20 → fr ≤ 5 → acc.length ≤ 500 →
      f2 = nI P → f3 = nI d → f5 = nI acc.length → (∀ j, j < 4 * P → a4 j = ct_v (ct_dg T j)) → ct_K a5 a6 a7 n stk T P → ct_Ar a8 acc →
      wX_find_41 post (nI n) (f + 1) (nI fr) (ct_c ce) 1 f0 f1 f2 f3 f4 f5 a1 a2 a3 a4 a5 a6 a7 a8 a9 a10 a11 a12 a13 := by
  intro f
  induction f with
  | zero =>
    intro T P stk d ce fr acc f2 f3 f5 a4 a5 a6 a7 a8 h
    exact absurd h.symm (Option.some_ne_none L)
  | succ f ih =>
    intro T P stk d ce fr acc f2 f3 f5 a4 a5 a6 a7 a8 h hG hPn hd hd20 hce hce20 hfr hacc hf2 hf3 hf5 ht hK hA
    rw [ct_run, ct_fc_eq] at h
    have hP := hG.1.2
    have pop : ∀ x3 : Int32, ct_pop stk (some acc) (fun c i P0 T0 s => ct_run R n f T0 P0 s (Nat.pred d) c (Nat.succ i) acc) = some L → wX_find_61 post (wX_find_41 post (nI n) (f + 1)) (nI n) (nI fr) x3 1 (-1) f0 f1 f2 f3 f4 f5 a1 a2 a3 a4 a5 a6 a7 a8 a9 a10 a11 a12 a13 := by
      intro x3 hs
      subst hf2 hf3 hf5
      refine br_t (by decide) (pk_eq d 0 (fun e => ?_) (fun e => ?_))
      · cases stk with
        | nil =>
          have e2 : acc = L := Option.some.inj hs
          subst e2
          exact br_t rfl (H _ _ _ _ _ _ _ hA hacc)
        | cons q s => rw [List.length_cons] at hd; omega
      · cases stk with
        | nil => exact absurd hd.symm e
        | cons q s =>
          obtain ⟨c, i, P0, T0⟩ := q
          rw [List.length_cons] at hd
          subst hd
          obtain ⟨⟨⟨k5, k6, k7⟩, ⟨kG, kn, kc, ki, ki5, k1, k2⟩, kT, kP⟩, kr⟩ := hK
          subst kT kP
          have hc20 : c < 20 := by have := kG.1.2; omega
          refine ⟨pk_in s.length 20 (by omega) (nI_pred _), nm_r (ct_at (nI_pred _) (by omega) k7) (ct_tb_walk kG kc ki ki5 k1 k2 (by omega) rfl rfl ht k5 k6 k7 (fun s' hs' => ?_))⟩
          have t := ih T0 P0 s s.length c (i + 1) acc (nI P0) (nI s.length) (nI acc.length) s' a5 a6 a7 a8 hs kG kn rfl (by omega) (fun _ => ⟨kc, k1⟩) (by omega) (by omega) hacc rfl rfl rfl hs' kr hA
          rw [ct_c_lt hc20] at t
          exact t
    refine br_f (by decide) ?_
    rcases Nat.lt_or_ge ce 20 with g | g
    · rw [ct_bf g, cond_false] at h
      have hce' := hce g
      rw [ct_c_lt g]
      refine br_t (nI_pos' (by omega)) ⟨7, ct_nf_walk hG hn g hfr hf2 ht 7 fr (by omega) (by omega) (by omega) ?_⟩
      generalize him : ct_nf T (ct_l ce) fr P n 7 fr = im at h ⊢
      rcases Nat.lt_or_ge im 9 with z | z
      · rw [ct_bf z, cond_false] at h
        have ok := ct_nf_ok (T := T) (l := ct_l ce) (P := P) (fr := fr) (n := n) 7 fr (by rw [him]; exact z)
        rw [him] at ok
        have hi5 : im < 5 := by omega
        have hiP : im ≤ P := by omega
        have h2 : ct_dg T (4 * im + ct_l ce) = 0 := by
          rcases ok with o | o
          · exact o.2
          · exact hG.2.1 _ (by omega)
        rw [ct_i_lt z]
        rcases Nat.lt_or_ge d 20 with y | y
        · rw [ct_bf y, cond_false, ct_fc_eq, ct_fc_eq] at h
          have hG1 := ct_put_G hG hce'.1 hiP hi5 hce'.2 h2
          have eP : (bif Nat.beq im P then Nat.succ P else P) = if im = P then P + 1 else P := by
            by_cases e : im = P
            · rw [if_pos e, ct_et e]; rfl
            · rw [if_neg e, ct_ef e]; rfl
          rw [eP] at h
          have hPn1 : (if im = P then P + 1 else P) ≤ n := by split <;> omega
          refine br_f (nI_pos (by omega)) (ct_put_walk hG hce'.1 hiP hi5 hce'.2 h2 y hf2 hf3 ht (fun s hs => ?_))
          refine ct_fits_wp hG1 hm hf1 rfl hs hR (fun good => ?_) (fun bad => ?_)
          · rw [good, cond_true, ct_fc_eq] at h
            have h5 : ct_kp (ct_put T ce im) (if im = P then P + 1 else P) n (ct_fo (ct_put T ce im) (4 * if im = P then P + 1 else P) 21 0) acc (fun acc' => ct_run R n f (ct_put T ce im) (if im = P then P + 1 else P) ((ce, im, P, T) :: stk) (d + 1) (ct_fo (ct_put T ce im) (4 * if im = P then P + 1 else P) 21 0) 0 acc') = some L := h
            have hP1 := hG1.1.2
            refine br_f (by decide) (br_f (by decide) ⟨21, ct_fo_walk hG1 rfl hs 21 0 (by omega) (by omega) ?_⟩)
            have ok2 := ct_fo_ok (T := ct_put T ce im) (m := 4 * if im = P then P + 1 else P) (by omega) 21 0 (by omega) (by omega)
            generalize ct_fo (ct_put T ce im) (4 * if im = P then P + 1 else P) 21 0 = r at h5 ok2 ⊢
            have hK1 : ct_K (upd a5 d (nI im)) (upd a6 d (if im = P then 1 else 0)) (upd a7 d (nI ce)) n ((ce, im, P, T) :: stk) (ct_put T ce im) (if im = P then P + 1 else P) := by
              refine ⟨⟨⟨?_, ?_, ?_⟩, ⟨hG, hPn, hce'.1, hiP, hi5, hce'.2, h2⟩, rfl, rfl⟩, ct_K_up stk T P (by omega) hK⟩
              · rw [hd, pk_us]
              · rw [hd, pk_us]
              · rw [hd, pk_us]
            rcases ok2 with ⟨o1, o2⟩ | ⟨o1, o2⟩
            · have hr : r < 20 := by omega
              unfold ct_kp at h5
              rw [ct_bf hr, cond_false] at h5
              have t := ih _ _ _ _ r 0 acc _ _ f5 _ _ _ _ a8 h5 hG1 hPn1 (by rw [List.length_cons, hd]) (by omega) (fun _ => ⟨o1, o2⟩) (by omega) (by omega) hacc rfl rfl hf5 hs hK1 hA
              rw [ct_c_lt hr] at t ⊢
              exact br_t (nI_pos' (by omega)) t
            · subst o1
              refine br_f (by decide) (ct_keep_walk hP1 hn rfl hf5 hacc hs (fun j hj => o2 j (by omega) hj) hA h5 (fun acc' b8 hA' hl' hk' => ?_))
              exact ih _ _ _ _ 20 0 acc' _ _ _ _ _ _ _ b8 hk' hG1 hPn1 (by rw [List.length_cons, hd]) (by omega) (fun z => absurd z (by omega)) (by omega) (by omega) hl' rfl rfl rfl hs hK1 hA'
          · rw [bad, cond_false] at h
            refine br_t rfl (ct_tb_walk hG hce'.1 hiP hi5 hce'.2 h2 y rfl rfl hs pk_us pk_us pk_us (fun s2 hs2 => ?_))
            have t := ih T P stk d ce (im + 1) acc (nI P) (nI d) f5 s2 (upd a5 d (nI im)) (upd a6 d (if im = P then 1 else 0)) (upd a7 d (nI ce)) a8 h hG hPn hd hd20 hce hce20 (by omega) hacc rfl rfl hf5 hs2 (ct_K_up stk T P (by omega) hK) hA
            rw [ct_c_lt g] at t
            exact br_t rfl (br_t (nI_pos' (by omega)) t)
        · rw [ct_bt y] at h
          exact absurd h.symm (Option.some_ne_none L)
      · rw [ct_bt z] at h
        have e9 : ct_i im = -1 := by unfold ct_i; rw [ct_bt z]; rfl
        rw [e9]
        exact pop _ h
    · have e20 : ce = 20 := by omega
      subst e20
      exact br_f (by decide) (pop _ h)
end
section
/-! The object as a whole; find, tables; words and relators. -/
def ct_O (W : List Nat) (R : List (List Nat)) (ff : Nat) (L : List Nat) (u : St2) : Prop := match u with
  | (f0, f1, f2, f3, f4, f5, a1, a2, a3, a4, a5, a6, a7, a8, a9, a10, a11, a12, a13) => (f0 = nI W.length ∧ W.length ≤ 8 ∧ ct_W a1 0 W) ∧ (f1 = nI R.length ∧ R.length ≤ 4 ∧ ct_R a2 a3 0 R) ∧ (f4 = nI ff ∧ ff ≤ 5 ∧ f5 = nI L.length ∧ L.length ≤ 500 ∧ ct_A a8 0 L) ∧ (ff ≠ 0 → ct_find R ff = some L)
theorem ct_find_wp {post : St2 → Prop} {u : St2} {W : List Nat} {R : List (List Nat)} {ff n : Nat} {L L' : List Nat} (hO : ct_O W R ff L u) (h1 : 1 ≤ n) (h5 : n ≤ 5) (hF : ct_find R n = some L')
    (H : ∀ u', ct_O W R n L' u' → post u') : wpX_find post u (nI n) := by
  obtain ⟨f0, f1, f2, f3, f4, f5, a1, a2, a3, a4, a5, a6, a7, a8, a9, a10, a11, a12, a13⟩ := u
  obtain ⟨hW, ⟨e1, hm, hR⟩, ⟨e4, hff, e5, hL, hA⟩, hc⟩ := hO
  refine pk_eq ff n (fun e => ?_) (fun e => ?_) e4
  · have t := hc (by omega)
    rw [e, hF] at t
    have t' : L' = L := Option.some.inj t
    refine H _ ⟨hW, ⟨e1, hm, hR⟩, ⟨?_, h5, ?_, ?_, ?_⟩, fun _ => hF⟩
    · rw [e4, e]
    · rw [t', e5]
    · rw [t']; exact hL
    · rw [t']; exact hA
  · refine ct_open (p := 0) (by omega) (fun s hs1 hs2 => ⟨2401, ?_⟩)
    cases hr : ct_run R n 2400 0 1 [] 0 0 0 [] with
    | none =>
      unfold ct_find at hF
      rw [hr] at hF
      exact absurd hF.symm (Option.some_ne_none L')
    | some l =>
      have hl : l.reverse = L' := by
        unfold ct_find at hF
        rw [hr] at hF
        exact Option.some.inj hF
      refine ct_loop (n := n) (R := R) (L := l) h5 hR hm e1 (fun g2 g3 b4 b5 b6 b7 b8 hb hlen => H _ ⟨hW, ⟨e1, hm, hR⟩, ⟨rfl, h5, ?_, ?_, ?_⟩, fun _ => hF⟩) 2400 0 1 [] 0 0 0 [] _ _ _ _ _ _ _ _ hr ⟨⟨by omega, by omega⟩, fun c _ => ct_dg_zero c, fun c => by rw [ct_dg_zero]; omega⟩ h1 rfl (by omega) (fun _ => ⟨by omega, ct_dg_zero 0⟩) (by omega) (by omega) (by decide) rfl rfl rfl (fun j hj => ?_) trivial trivial
      · rw [← hl, List.length_reverse]
      · rw [← hl, List.length_reverse]; exact hlen
      · rw [← hl]; exact ct_Ar_rev l hb
      · have t := hs1 j (by omega)
        rw [show 4 * 0 + j = j from by omega] at t
        rw [t, ct_dg_zero]
        rfl
theorem ct_bad {post : Int32 → Prop} {u : St2} {n : Nat} (h1 : 1 ≤ n) (h5 : n ≤ 5) (H : post 0) : wpX_badNumber post u (nI n) := by
  obtain ⟨f0, f1, f2, f3, f4, f5, a1, a2, a3, a4, a5, a6, a7, a8, a9, a10, a11, a12, a13⟩ := u
  exact pk_lt n 1 (fun z => absurd z (by omega)) (fun _ => pk_le n 5 (fun _ => H) (fun z => absurd z (by omega)))
theorem ct_tables {post : Int32 → St2 → Prop} {u : St2} {W : List Nat} {R : List (List Nat)} {ff n : Nat} {L L' : List Nat} (hO : ct_O W R ff L u) (h1 : 1 ≤ n) (h5 : n ≤ 5) (hF : ct_find R n = some L')
    (H : ∀ u', ct_O W R n L' u' → post (nI L'.length) u') : wpX_tables post u (nI n) := by
  obtain ⟨f0, f1, f2, f3, f4, f5, a1, a2, a3, a4, a5, a6, a7, a8, a9, a10, a11, a12, a13⟩ := u
  unfold wpX_tables
  dsimp only
  refine ct_bad h1 h5 (br_t rfl (ct_find_wp hO h1 h5 hF (fun u' h' => ?_)))
  obtain ⟨f0x, f1x, f2x, f3x, f4x, f5x, a1x, a2x, a3x, a4x, a5x, a6x, a7x, a8x, a9x, a10x, a11x, a12x, a13x⟩ := u'
  have e : f5x = nI L'.length := h'.2.2.1.2.2.1
  subst e
  exact H _ h'
theorem ct_W_get {a : Nat → Int32} : ∀ (ls : List Nat) (o : Nat), ct_W a o ls → ∀ j, j < ls.length → ∃ l, l < 4 ∧ a (o + j) = nI l := by
  intro ls
  induction ls with
  | nil => intro o _ j hj; exact absurd hj (Nat.not_lt_zero j)
  | cons l ls ih =>
    intro o h j hj
    cases j with
    | zero => exact ⟨l, h.1.2, h.1.1⟩
    | succ j =>
      rw [List.length_cons] at hj
      obtain ⟨x, hx, e⟩ := ih (o + 1) h.2 j (by omega)
      exact ⟨x, hx, by rw [← e]; congr 1; omega⟩
theorem ct_letter {post : Int32 → St2 → Prop} {u : St2} {W : List Nat} {R : List (List Nat)} {ff l : Nat} {L : List Nat} (hO : ct_O W R ff L u) (hl : l < 4) (h8 : W.length < 8)
    (H : ∀ u', ct_O (W ++ [l]) R ff L u' → post (nI (W.length + 1)) u') : wpX_letter post u (nI l) := by
  obtain ⟨f0, f1, f2, f3, f4, f5, a1, a2, a3, a4, a5, a6, a7, a8, a9, a10, a11, a12, a13⟩ := u
  obtain ⟨⟨e0, hw, hW⟩, hR⟩ := hO
  subst e0
  refine br_f (nI_pos (by omega)) (pk_lt l 4 (fun _ => pk_eq W.length 8 (fun z => absurd z (by omega)) (fun _ => ⟨pk_in W.length 8 h8, nm_r (show _ = upd a1 W.length (nI l) by rw [nI_clamp (by omega), ct_b8 l (by omega)]) (nm_r (nI_1 _) (H _ ⟨⟨?_, ?_, ?_⟩, hR⟩))⟩)) (fun z => absurd z (by omega)))
  · rw [List.length_append]; rfl
  · rw [List.length_append]; exact h8
  · refine ct_W_snoc W 0 (ct_W_at W 0 hW _ 0 (fun j hj => pk_un (by omega))) ?_ hl
    rw [Nat.zero_add, pk_us]
theorem ct_puts {post : St2 → Prop} {R : List (List Nat)} {ff l m : Nat} {L V : List Nat} (hl : l < 4) (hm : m ≤ 8) (H : ∀ u', ct_O V R ff L u' → post u') :
    ∀ (k i : Nat) (W : List Nat) (u : St2), i + k = m → W.length + k ≤ 8 → W ++ ct_rp l k = V → ct_O W R ff L u → match u with | (f0, f1, f2, f3, f4, f5, a1, a2, a3, a4, a5, a6, a7, a8, a9, a10, a11, a12, a13) => wL_put_2 post (nI l) (nI m) (k + 1) (nI i) f0 f1 f2 f3 f4 f5 a1 a2 a3 a4 a5 a6 a7 a8 a9 a10 a11 a12 a13 := by
  intro k
  induction k with
  | zero =>
    intro i W u hi h8 hV hO
    obtain ⟨f0, f1, f2, f3, f4, f5, a1, a2, a3, a4, a5, a6, a7, a8, a9, a10, a11, a12, a13⟩ := u
    have e : W = V := by rw [← hV]; exact (List.append_nil W).symm
    subst e
    exact pk_le m i (fun _ => H _ hO) (fun z => absurd z (by omega))
  | succ k ih =>
    intro i W u hi h8 hV hO
    obtain ⟨f0, f1, f2, f3, f4, f5, a1, a2, a3, a4, a5, a6, a7, a8, a9, a10, a11, a12, a13⟩ := u
    refine pk_le m i (fun z => absurd z (by omega)) (fun _ => ct_letter hO hl (by omega) (fun u' h' => ?_))
    have t := ih (i + 1) (W ++ [l]) u' (by omega) (by rw [List.length_append]; show W.length + 1 + k ≤ 8; omega) (by rw [← hV, List.append_assoc]; rfl) h'
    obtain ⟨f0x, f1x, f2x, f3x, f4x, f5x, a1x, a2x, a3x, a4x, a5x, a6x, a7x, a8x, a9x, a10x, a11x, a12x, a13x⟩ := u'
    exact nm_r (nI_1 i) t
theorem ct_lput {post : St2 → Prop} {u : St2} {W : List Nat} {R : List (List Nat)} {ff l m : Nat} {L : List Nat} (hO : ct_O W R ff L u) (hl : l < 4) (h8 : W.length + m ≤ 8)
    (H : ∀ u', ct_O (W ++ ct_rp l m) R ff L u' → post u') : wpL_put post u (nI l) (nI m) := by
  have t := ct_puts (m := m) hl (by omega) H m 0 W u (by omega) h8 rfl hO
  obtain ⟨f0, f1, f2, f3, f4, f5, a1, a2, a3, a4, a5, a6, a7, a8, a9, a10, a11, a12, a13⟩ := u
  exact ⟨m + 1, t⟩
theorem ct_clear {post : Int32 → St2 → Prop} {u : St2} {W : List Nat} {R : List (List Nat)} {ff : Nat} {L : List Nat} (hO : ct_O W R ff L u)
    (H : ∀ u', ct_O [] R ff L u' → post (nI W.length) u') : wpX_clear post u := by
  obtain ⟨f0, f1, f2, f3, f4, f5, a1, a2, a3, a4, a5, a6, a7, a8, a9, a10, a11, a12, a13⟩ := u
  obtain ⟨⟨e0, hw, hW⟩, hR⟩ := hO
  subst e0
  exact H _ ⟨⟨rfl, by decide, trivial⟩, hR⟩
theorem ct_relate {post : Int32 → St2 → Prop} {u : St2} {W : List Nat} {R : List (List Nat)} {ff : Nat} {L : List Nat} (hO : ct_O W R ff L u) (h4 : R.length < 4)
    (H : ∀ u', ct_O W (R ++ [W]) 0 L u' → post (nI (R.length + 1)) u') : wpX_relate post u := by
  obtain ⟨f0, f1, f2, f3, f4, f5, a1, a2, a3, a4, a5, a6, a7, a8, a9, a10, a11, a12, a13⟩ := u
  obtain ⟨⟨e0, hw, hW⟩, ⟨e1, hm, hR⟩, ⟨e4, hff, e5, hL, hA⟩, hc⟩ := hO
  subst e0 e1
  refine pk_eq R.length 4 (fun z => absurd z (by omega)) (fun _ => ?_)
  refine pk_loop (fun n i s => wX_relate_13 post (nI W.length) (nI R.length) f2 f3 f4 f5 n (nI i) a1 a2 s a4 a5 a6 a7 a8 a9 a10 a11 a12 a13) (fun i s => (∀ j, j < 8 * R.length → s j = a3 j) ∧ (∀ j, j < i → s (8 * R.length + j) = a1 j)) W.length 0 a3 (by omega)
    ⟨fun _ _ => rfl, fun j hj => absurd hj (by omega)⟩ (fun n s h => pk_le W.length W.length (fun _ => ?_) (fun z => absurd z (by omega))) (fun n i s hi h hw' => pk_le W.length i (fun z => absurd z (by omega)) (fun _ => ?_))
  · refine ⟨pk_in R.length 4 h4, nm_r (show _ = upd a2 R.length (nI W.length) by rw [nI_clamp (by omega), ct_b8 _ (by omega)]) (nm_r (nI_1 _) (H _ ⟨⟨rfl, hw, hW⟩, ⟨?_, ?_, ?_⟩, ⟨rfl, by omega, e5, hL, hA⟩, fun z => absurd rfl z⟩))⟩
    · rw [List.length_append]; rfl
    · rw [List.length_append]; exact h4
    · refine ct_R_snoc R 0 (ct_R_keep R 0 R.length (by omega) hR (fun j hj => pk_un (by omega)) (fun j hj => h.1 j hj)) ?_ hw ?_
      · rw [Nat.zero_add, pk_us]
      · rw [Nat.zero_add]
        exact ct_W_at W 0 hW _ _ (fun j hj => by rw [h.2 j hj, Nat.zero_add])
  · obtain ⟨l, hl, el⟩ := ct_W_get W 0 hW i hi
    rw [Nat.zero_add] at el
    refine ⟨pk_in i 8 (by omega), pk_in (8 * R.length + i) 32 (by omega) (ct_8 _ _), nm_r (show _ = upd s (8 * R.length + i) (a1 i) by rw [ct_8, nI_clamp (by omega), nI_clamp (by omega), el, ct_vb (by omega)]) (nm_r (nI_1 i) (hw' _ ⟨fun j hj => ?_, fun j hj => ?_⟩))⟩
    · rw [pk_un (by omega)]; exact h.1 j hj
    · by_cases e : j = i
      · rw [e, pk_us]
      · rw [pk_un (by omega)]; exact h.2 j (by omega)
theorem ct_W_shift {a b : Nat → Int32} : ∀ (ls : List Nat) (o o' : Nat), ct_W a o ls → (∀ j, j < ls.length → b (o' + j) = vp_nar .byte (a (o + j))) → ct_W b o' ls := by
  intro ls
  induction ls with
  | nil => intro o o' _ _; exact trivial
  | cons l ls ih =>
    intro o o' h e
    have t0 := e 0 (by rw [List.length_cons]; omega)
    rw [Nat.add_zero, Nat.add_zero, h.1.1, ct_vb (by have := h.1.2; omega)] at t0
    refine ⟨⟨t0, h.1.2⟩, ih (o + 1) (o' + 1) h.2 (fun j hj => ?_)⟩
    have t := e (j + 1) (by rw [List.length_cons]; omega)
    rw [show o' + 1 + j = o' + (j + 1) from by omega, show o + 1 + j = o + (j + 1) from by omega]
    exact t
theorem ct_R_shift {a2 a3 b2 b3 : Nat → Int32} : ∀ (rs : List (List Nat)) (k m : Nat), k + rs.length ≤ m → ct_R a2 a3 (k + 1) rs → (∀ j, j < m → b2 j = vp_nar .byte (a2 (j + 1))) → (∀ j, j < 8 * m → b3 j = vp_nar .byte (a3 (j + 8))) → ct_R b2 b3 k rs := by
  intro rs
  induction rs with
  | nil => intro k m _ _ _ _; exact trivial
  | cons r rs ih =>
    intro k m hm h e2 e3
    rw [List.length_cons] at hm
    have hr := h.1.2.1
    refine ⟨⟨?_, hr, ct_W_shift r _ _ h.1.2.2 (fun j hj => ?_)⟩, ih (k + 1) m (by omega) h.2 e2 e3⟩
    · rw [e2 k (by omega), h.1.1, ct_vb (by omega)]
    · rw [e3 _ (by omega)]
      congr 2
      omega
theorem ct_drop {post : Int32 → St2 → Prop} {u : St2} {W r : List Nat} {R : List (List Nat)} {ff : Nat} {L : List Nat} (hO : ct_O W (r :: R) ff L u)
    (H : ∀ u', ct_O W R 0 L u' → post (nI R.length) u') : wpX_drop post u 0 := by
  obtain ⟨f0, f1, f2, f3, f4, f5, a1, a2, a3, a4, a5, a6, a7, a8, a9, a10, a11, a12, a13⟩ := u
  obtain ⟨hW, ⟨e1, hm, hR⟩, ⟨e4, hff, e5, hL, hA⟩, hc⟩ := hO
  subst e1
  rw [List.length_cons] at hm
  refine br_f (by decide) (pk_lt 0 (R.length + 1) (fun _ => nm_r (nI_pred R.length) (nm_r (show _ = nI 0 from rfl) ?_)) (fun z => absurd z (by omega)))
  have e8 : 8 * nI R.length = nI (8 * R.length) := by rw [show (8 : Int32) = nI 8 from rfl, pk_mul]
  have e18 : ∀ i, nI i + 8 = nI (i + 8) := fun i => nI_add i 8
  refine pk_loop (fun n i s => wX_drop_30 post 0 f0 (nI R.length) f2 f3 f4 f5 n (nI i) a1 a2 s a4 a5 a6 a7 a8 a9 a10 a11 a12 a13) (fun i s => (∀ j, j < i → s j = vp_nar .byte (a3 (j + 8))) ∧ (∀ j, i ≤ j → s j = a3 j)) (8 * R.length) 0 a3 (by omega)
    ⟨fun j hj => absurd hj (by omega), fun _ _ => rfl⟩ (fun n s h => pk_le (8 * R.length) (8 * R.length) (fun _ => ?_) (fun z => absurd z (by omega)) e8) (fun n i s hi h hw' => pk_le (8 * R.length) i (fun z => absurd z (by omega)) (fun _ => ?_) e8)
  · refine pk_loop (fun n i t => wX_drop_64 post f0 (nI R.length) f2 f3 f4 f5 n (nI i) a1 t s a4 a5 a6 a7 a8 a9 a10 a11 a12 a13) (fun i t => (∀ j, j < i → t j = vp_nar .byte (a2 (j + 1))) ∧ (∀ j, i ≤ j → t j = a2 j)) R.length 0 a2 (by omega)
      ⟨fun j hj => absurd hj (by omega), fun _ _ => rfl⟩ (fun n t h' => pk_le R.length R.length (fun _ => ?_) (fun z => absurd z (by omega))) (fun n i t hi h' hw' => pk_le R.length i (fun z => absurd z (by omega)) (fun _ => ?_))
    · exact H _ ⟨hW, ⟨rfl, by omega, ct_R_shift R 0 R.length (by omega) hR.2 h'.1 h.1⟩, ⟨rfl, by omega, e5, hL, hA⟩, fun z => absurd rfl z⟩
    · refine ⟨pk_in (i + 1) 4 (by omega) (nI_1 i), pk_in i 4 (by omega), nm_r (show _ = upd t i (vp_nar .byte (a2 (i + 1))) by rw [nI_1, nI_clamp (by omega), nI_clamp (by omega), h'.2 (i + 1) (by omega)]) (nm_r (nI_1 i) (hw' _ ⟨fun j hj => ?_, fun j hj => ?_⟩))⟩
      · by_cases e : j = i
        · rw [e, pk_us]
        · rw [pk_un e]; exact h'.1 j (by omega)
      · rw [pk_un (by omega)]; exact h'.2 j (by omega)
  · refine ⟨pk_in (i + 8) 32 (by omega) (e18 i), pk_in i 32 (by omega), nm_r (show _ = upd s i (vp_nar .byte (a3 (i + 8))) by rw [e18, nI_clamp (by omega), nI_clamp (by omega), h.2 (i + 8) (by omega)]) (nm_r (nI_1 i) (hw' _ ⟨fun j hj => ?_, fun j hj => ?_⟩))⟩
    · by_cases e : j = i
      · rw [e, pk_us]
      · rw [pk_un e]; exact h.1 j (by omega)
    · rw [pk_un (by omega)]; exact h.2 j (by omega)
end
section
/-! Images in tables, numbering anew, comparing. -/
theorem ct_pfI {a : Nat} (h : a < 2 ^ 63) : (lN a).toInt = (a : Int) := pk_lT h
theorem ct_pfshr {a d : Nat} {D : Int64} (hD : (D.toBitVec.smod 64).toNat = d) (h : a < 2 ^ 62) : lN a >>> D = lN (a / 2 ^ d) := by
  have hd : a / 2 ^ d ≤ a := Nat.div_le_self _ _
  apply Int64.toInt_inj.mp
  have e : (lN a >>> D).toInt = (lN a).toInt >>> d := by
    rw [← hD]
    exact BitVec.toInt_sshiftRight ..
  rw [e, Int.shiftRight_eq_div_pow, ct_pfI (by omega), ct_pfI (by omega)]
  rfl
theorem ct_m7 {x : Nat} (h : x < 2 ^ 62) : lN x &&& 7 = lN (x % 8) := by
  apply Int64.toBitVec_inj.mp
  rw [Int64.toBitVec_and]
  apply BitVec.eq_of_toNat_eq
  show (BitVec.ofNat 64 x &&& BitVec.ofNat 64 7).toNat = (BitVec.ofNat 64 (x % 8)).toNat
  rw [BitVec.toNat_and, BitVec.toNat_ofNat, BitVec.toNat_ofNat, BitVec.toNat_ofNat, show 7 % 2 ^ 64 = 2 ^ 3 - 1 from by decide, Nat.and_two_pow_sub_one_eq_mod]
  omega
theorem ct_cn : ∀ s, s < 20 → ((((3 * (19 - nI s)).toInt64 &&& 63).toBitVec.smod 64).toNat = 3 * (19 - s)) := by decide +kernel
theorem ct_imN {cd s : Nat} (hs : s < 20) (hc : cd < 2 ^ 60) : ((lN cd >>> ((3 * (19 - nI s)).toInt64 &&& 63)) &&& 7).toInt32 = nI (cd / 8 ^ (19 - s) % 8) := by
  rw [ct_pfshr (ct_cn s hs) (by omega), ct_m7 (Nat.lt_of_le_of_lt (Nat.div_le_self _ _) (by omega)), lN_i, Nat.pow_mul]
theorem ct_im_eq (cd p l : Nat) : ct_im cd p l = cd / 8 ^ (19 - (4 * p + l)) % 8 := rfl
theorem ct_im_lt (cd p l : Nat) : ct_im cd p l < 8 := Nat.mod_lt _ (by decide)
theorem ct_image {post : Int32 → Prop} {f0 f1 f2 f3 f4 f5 : Int32} {a1 a2 a3 a4 a5 a6 a7 : Nat → Int32} {a8 : Nat → Int64} {a9 a10 a11 a12 a13 : Nat → Int32} {k cd p l : Nat} {y z : Int32} (hk : k < 500) (h8 : a8 k = lN cd) (hc : cd < 2 ^ 60) (hy : y = nI p) (hz : z = nI l) (hs : 4 * p + l < 20) (H : post (nI (ct_im cd p l))) :
    wpX_imageIn post (f0, f1, f2, f3, f4, f5, a1, a2, a3, a4, a5, a6, a7, a8, a9, a10, a11, a12, a13) (nI k) y z := by
  subst hy hz
  refine nm_r (ct_4 p l) ⟨pk_in k 500 hk, ?_⟩
  rw [nI_clamp (by omega), h8, ct_imN hs hc]
  exact H
theorem ct_num_walk {post : St2 → Prop} {f0 f1 f2 f3 f4 f5 : Int32} {a1 a2 a3 a4 a5 a6 a7 : Nat → Int32} {a8 : Nat → Int64} {a12 a13 : Nat → Int32} {k cd n o' : Nat} (hk : k < 500) (h8 : a8 k = lN cd) (hc : cd < 2 ^ 60) (hn : n ≤ 5)
    (H : ∀ (a9 a10 a11 : Nat → Int32), (∀ j, j < 4 * n → a9 j = nI (ct_dg o' j)) → post (f0, f1, f2, f3, f4, f5, a1, a2, a3, a4, a5, a6, a7, a8, a9, a10, a11, a12, a13)) :
    ∀ (f q met od pl o : Nat) (a9 a10 a11 : Nat → Int32), ct_num cd n f q met od pl o = some o' → q + f = 4 * n → met ≤ 5 →
      (∀ i, i < met → a10 i = nI (ct_dg od i) ∧ ct_dg od i < 5) → (∀ i, met ≤ i → ct_dg od i = 0) → (∀ i, i < n → a11 i = ct_v (ct_dg pl i)) →
      (∀ j, j < q → a9 j = nI (ct_dg o j)) → (∀ j, q ≤ j → ct_dg o j = 0) →
      wX_numberFrom_44 post (nI k) (nI n) f0 f1 f2 f3 f4 f5 (f + 1) (nI met) (nI q) a1 a2 a3 a4 a5 a6 a7 a8 a9 a10 a11 a12 a13 := by
  intro f
  induction f with
  | zero =>
    intro q met od pl o a9 a10 a11 h hq hmet h10 h10' h11 h9 h9'
    have e : o = o' := Option.some.inj h
    subst e
    exact pk_le (4 * n) q (fun _ => H a9 a10 a11 (fun j hj => h9 j (by omega))) (fun z => absurd z (by omega)) (ct_4m n)
  | succ f ih =>
    intro q met od pl o a9 a10 a11 h hq hmet h10 h10' h11 h9 h9'
    rw [ct_num] at h
    rcases Nat.lt_or_ge (q / 4) met with g | g
    · have g' : Nat.ble met (Nat.div q 4) = false := ct_bf g
      rw [g', cond_false, ct_fc_eq] at h
      obtain ⟨e10, l10⟩ := h10 (q / 4) g
      have eq4 : nI q >>> ((2 : Int32) &&& 31) = nI (q / 4) := ct_sh2 q (by omega)
      refine pk_le (4 * n) q (fun z => absurd z (by omega)) (fun _ => ⟨pk_in (q / 4) 5 (by omega) eq4, ?_⟩) (ct_4m n)
      refine ct_image hk h8 hc (p := ct_dg od (q / 4)) (l := q % 4) (ct_at eq4 (by omega) e10) (ct_a3 q (by omega)) (by omega) ?_
      have him : ct_im cd (ct_dg od (Nat.div q 4)) (Nat.mod q 4) = ct_im cd (ct_dg od (q / 4)) (q % 4) := rfl
      rw [him] at h
      generalize ct_im cd (ct_dg od (q / 4)) (q % 4) = im at h ⊢
      rcases Nat.lt_or_ge im n with y | y
      · rw [ct_bf y, cond_false, ct_fc_eq] at h
        refine ⟨pk_in im 5 (by omega), ct_vif (ct_dg pl im) (ct_at rfl (by omega) (h11 im y)) (by have := ct_dg_lt pl im; omega) (fun z => ?_) (fun z => ?_)⟩
        · rw [ct_ef z, cond_false, ct_fc_eq] at h
          have hv : Nat.pred (ct_dg pl im) < 8 := by have := ct_dg_lt pl im; have := Nat.pred_le (ct_dg pl im); omega
          have e11 : a11 im = nI (Nat.pred (ct_dg pl im)) := by
            rw [h11 im y]
            cases e : ct_dg pl im with
            | zero => exact absurd e z
            | succ w => exact ct_vs w
          have ho : ∀ j, ct_dg (Nat.add o (Nat.mul (Nat.pred (ct_dg pl im)) (Nat.pow 8 q))) j = if j = q then Nat.pred (ct_dg pl im) else ct_dg o j := ct_dg_add (h9' q (by omega)) hv
          refine ⟨pk_in im 5 (by omega), pk_in q 20 (by omega), nm_r (show _ = upd a9 q (nI (Nat.pred (ct_dg pl im))) by rw [nI_clamp (by omega), nI_clamp (by omega), e11, ct_vb (by omega)]) (nm_r (nI_1 q) (ih (q + 1) met od pl _ _ a10 a11 h (by omega) hmet h10 h10' h11 (fun j hj => ?_) (fun j hj => ?_)))⟩
          · rw [ho]
            by_cases e : j = q
            · rw [if_pos e, e, pk_us]
            · rw [if_neg e, pk_un e]; exact h9 j (by omega)
          · rw [ho, if_neg (by omega)]; exact h9' j (by omega)
        · rw [ct_et z, cond_true] at h
          rcases Nat.lt_or_ge met 5 with x | x
          · rw [ct_bf x, cond_false, ct_fc_eq, ct_fc_eq, ct_fc_eq] at h
            have hod : ∀ j, ct_dg (Nat.add od (Nat.mul im (Nat.pow 8 met))) j = if j = met then im else ct_dg od j := ct_dg_add (h10' met (by omega)) (by omega)
            have hpl : ∀ j, ct_dg (Nat.add pl (Nat.mul (Nat.succ met) (Nat.pow 8 im))) j = if j = im then met + 1 else ct_dg pl j := ct_dg_add z (by omega)
            have ho : ∀ j, ct_dg (Nat.add o (Nat.mul met (Nat.pow 8 q))) j = if j = q then met else ct_dg o j := ct_dg_add (h9' q (by omega)) (by omega)
            refine ⟨pk_in im 5 (by omega), nm_r (show _ = upd a11 im (nI met) by rw [nI_clamp (by omega), ct_b8 met (by omega)]) ⟨pk_in met 5 x, nm_r (show _ = upd a10 met (nI im) by rw [nI_clamp (by omega), ct_b8 im (by omega)]) (nm_r (nI_1 met) ?_)⟩⟩
            refine ⟨pk_in im 5 (by omega), pk_in q 20 (by omega), nm_r (show _ = upd a9 q (nI met) by rw [nI_clamp (by omega), nI_clamp (by omega), pk_us, ct_vb (by omega)]) (nm_r (nI_1 q) (ih (q + 1) (met + 1) _ _ _ _ _ _ h (by omega) (by omega) (fun i hi => ?_) (fun i hi => ?_) (fun i hi => ?_) (fun j hj => ?_) (fun j hj => ?_)))⟩
            · rw [hod]
              by_cases e : i = met
              · rw [if_pos e, e, pk_us]; exact ⟨rfl, by omega⟩
              · rw [if_neg e, pk_un e]; exact h10 i (by omega)
            · rw [hod, if_neg (by omega)]; exact h10' i (by omega)
            · rw [hpl]
              by_cases e : i = im
              · rw [if_pos e, e, pk_us, ct_vs]
              · rw [if_neg e, pk_un e]; exact h11 i hi
            · rw [ho]
              by_cases e : j = q
              · rw [if_pos e, e, pk_us]
              · rw [if_neg e, pk_un e]; exact h9 j (by omega)
            · rw [ho, if_neg (by omega)]; exact h9' j (by omega)
          · rw [ct_bt x] at h
            exact absurd h.symm (Option.some_ne_none o')
      · rw [ct_bt y] at h
        exact absurd h.symm (Option.some_ne_none o')
    · have g' : Nat.ble met (Nat.div q 4) = true := ct_bt g
      rw [g'] at h
      exact absurd h.symm (Option.some_ne_none o')
theorem ct_dg_small {p : Nat} (h : p < 8) (i : Nat) : ct_dg p i = if i = 0 then p else 0 := by
  have t := ct_dg_add (T := 0) (c := 0) (v := p) (ct_dg_zero 0) h i
  rw [Nat.zero_add, Nat.pow_zero, Nat.mul_one, ct_dg_zero] at t
  exact t
theorem ct_numberFrom {post : St2 → Prop} {f0 f1 f2 f3 f4 f5 : Int32} {a1 a2 a3 a4 a5 a6 a7 : Nat → Int32} {a8 : Nat → Int64} {a9 a10 a11 a12 a13 : Nat → Int32} {k cd n p o' : Nat} (hk : k < 500) (h8 : a8 k = lN cd) (hc : cd < 2 ^ 60) (hn : n ≤ 5) (hp : p < n) (ho : ct_num cd n (4 * n) 0 1 p (8 ^ p) 0 = some o')
    (H : ∀ (b9 b10 b11 : Nat → Int32), (∀ j, j < 4 * n → b9 j = nI (ct_dg o' j)) → post (f0, f1, f2, f3, f4, f5, a1, a2, a3, a4, a5, a6, a7, a8, b9, b10, b11, a12, a13)) : wpX_numberFrom post (f0, f1, f2, f3, f4, f5, a1, a2, a3, a4, a5, a6, a7, a8, a9, a10, a11, a12, a13) (nI k) (nI n) (nI p) := by
  refine pk_loop (fun m i s => wX_numberFrom_3 post (nI k) (nI n) (nI p) f0 f1 f2 f3 f4 f5 m (nI i) a1 a2 a3 a4 a5 a6 a7 a8 a9 a10 s a12 a13) (fun i s => ∀ j, j < i → s j = -1) n 0 a11 (by omega) (fun j hj => absurd hj (by omega))
    (fun m s h => pk_le n n (fun _ => ?_) (fun z => absurd z (by omega))) (fun m i s hi h hw => pk_le n i (fun z => absurd z (by omega)) (fun _ => ⟨pk_in i 5 (by omega), nm_r (by rw [nI_clamp (by omega)]) (nm_r (nI_1 i) (hw _ (fun j hj => ?_)))⟩))
  · refine nm_r (show _ = upd a10 0 (nI p) by rw [ct_b8 p (by omega)]) ⟨pk_in p 5 (by omega), nm_r (show _ = upd s p 0 by rw [nI_clamp (by omega)]) ⟨4 * n + 1, ?_⟩⟩
    have hpl : ∀ j, ct_dg (8 ^ p) j = if j = p then 1 else 0 := fun j => by
      have t := ct_dg_add (T := 0) (c := p) (v := 1) (ct_dg_zero p) (by omega) j
      rw [Nat.zero_add, Nat.one_mul, ct_dg_zero] at t
      exact t
    refine ct_num_walk hk h8 hc hn H (4 * n) 0 1 p (8 ^ p) 0 a9 _ _ ho (by omega) (by omega) (fun i hi => ?_) (fun i hi => ?_) (fun i hi => ?_) (fun j hj => absurd hj (by omega)) (fun j _ => ct_dg_zero j)
    · have e : i = 0 := by omega
      subst e
      rw [ct_dg_small (by omega), if_pos rfl, pk_us]
      exact ⟨rfl, by omega⟩
    · rw [ct_dg_small (by omega), if_neg (by omega)]
    · rw [hpl]
      by_cases e : i = p
      · rw [if_pos e, e, pk_us]; rfl
      · rw [if_neg e, pk_un e, h i hi]; rfl
  · by_cases e : j = i
    · rw [e, pk_us]
    · rw [pk_un e]; exact h j (by omega)
theorem ct_A_get {a8 : Nat → Int64} {c : Nat} {cs : List Nat} : ∀ (pre : List Nat) (o : Nat), ct_A a8 o (pre ++ c :: cs) → a8 (o + pre.length) = lN c ∧ c < 2 ^ 60 := by
  intro pre
  induction pre with
  | nil => intro o h; exact h.1
  | cons x xs ih =>
    intro o h
    have t := ih (o + 1) h.2
    rw [show o + (x :: xs).length = o + 1 + xs.length from by rw [List.length_cons]; omega]
    exact t
theorem ct_compare {post : Int32 → St2 → Prop} {u : St2} {W : List Nat} {R : List (List Nat)} {ff n cd p : Nat} {L pre cs : List Nat} (hO : ct_O W R ff L u) (hL : L = pre ++ cd :: cs) (hn : n ≤ 5) (hp : p < n) (hw : ct_cmp cd n p < 9)
    (H : ∀ u', ct_O W R ff L u' → post (ct_v (ct_cmp cd n p)) u') : wpX_compareFrom post u (nI pre.length) (nI n) (nI p) := by
  obtain ⟨f0, f1, f2, f3, f4, f5, a1, a2, a3, a4, a5, a6, a7, a8, a9, a10, a11, a12, a13⟩ := u
  have hO' := hO
  obtain ⟨hW, hR, ⟨e4, hff, e5, hlen, hA⟩, hcc⟩ := hO'
  rw [hL] at hA
  obtain ⟨h8, hc⟩ := ct_A_get pre 0 hA
  rw [Nat.zero_add] at h8
  have hk : pre.length < 500 := by
    rw [hL, List.length_append, List.length_cons] at hlen
    omega
  cases ho : ct_num cd n (4 * n) 0 1 p (8 ^ p) 0 with
  | none =>
    have e : ct_cmp cd n p = 9 := by
      unfold ct_cmp
      have e' : ct_num cd n (Nat.mul 4 n) 0 1 p (Nat.pow 8 p) 0 = none := ho
      rw [e']
    omega
  | some o' =>
    have e : ct_cmp cd n p = bif Nat.ble cd (ct_pk (fun x => ct_dg o' x) (4 * n) 20 0 0) then (bif Nat.beq (ct_pk (fun x => ct_dg o' x) (4 * n) 20 0 0) cd then 1 else 2) else 0 := by
      unfold ct_cmp
      have e' : ct_num cd n (Nat.mul 4 n) 0 1 p (Nat.pow 8 p) 0 = some o' := ho
      rw [e']
      exact ct_fc_eq _ _
    rw [e] at H
    have hlt := ct_pk60 (g := fun x => ct_dg o' x) (m := 4 * n) (fun c => ct_dg_lt o' c)
    unfold wpX_compareFrom
    dsimp only
    refine ct_numberFrom hk h8 hc hn hp ho (fun b9 b10 b11 hb => ?_)
    refine ⟨21, ct_pk_walk (g := fun x => ct_dg o' x) hn rfl (fun c => ct_dg_lt o' c) (Or.inr ⟨by decide, hb⟩) 20 0 0 (by omega) ⟨pk_in pre.length 500 hk, ?_⟩⟩
    generalize ct_pk (fun x => ct_dg o' x) (4 * n) 20 0 0 = a at H hlt ⊢
    dsimp only
    rw [nI_clamp (by omega), h8]
    refine ek_if (pk_lLE (by omega) (by omega)) (fun z => ⟨pk_in pre.length 500 hk, ek_if (pk_lEQ (by omega) (by omega)) (fun y => ?_) (fun y => ?_)⟩) (fun z => ?_)
    · rw [ct_bt z, ct_et y] at H
      exact H _ hO
    · rw [ct_bt z, ct_ef y] at H
      exact H _ hO
    · rw [ct_bf (by omega)] at H
      exact H _ hO
end
section
/-! kinds and even (printed by gen_count.py). -/
theorem ct_vone {x : Int32} {A B : Prop} (d : Nat) (hx : x = ct_v d) (hd : d < 9) (f : d = 1 → A) (g : d ≠ 1 → B) : (x = 0 → A) ∧ (¬ x = 0 → B) := by
  subst hx
  cases d with
  | zero => exact ⟨fun z => absurd z (by decide), fun _ => g (by omega)⟩
  | succ i =>
    rw [ct_vs]
    exact pk_eq i 0 (fun z => f (by omega)) (fun z => g (by omega))
theorem ct_kinds_in {post : Int32 → St2 → Prop} {J : Int32 → Int32 → Int32 → Int32 → Int32 → Int32 → Int32 → Int32 → (Nat → Int32) → (Nat → Int32) → (Nat → Int32) → (Nat → Int32) → (Nat → Int32) → (Nat → Int32) → (Nat → Int32) → (Nat → Int64) → (Nat → Int32) → (Nat → Int32) → (Nat → Int32) → (Nat → Int32) → (Nat → Int32) → Prop}
    {W : List Nat} {R : List (List Nat)} {ff n cd s : Nat} {b' : Bool} {L pre cs : List Nat} (hL : L = pre ++ cd :: cs) (hn : n ≤ 5)
    (HJ : ∀ u', ct_O W R ff L u' → match u' with | (f0, f1, f2, f3, f4, f5, a1, a2, a3, a4, a5, a6, a7, a8, a9, a10, a11, a12, a13) => J (nI (bif b' then s + 1 else s)) (nI (pre.length + 1)) f0 f1 f2 f3 f4 f5 a1 a2 a3 a4 a5 a6 a7 a8 a9 a10 a11 a12 a13) :
    ∀ (f p : Nat) (b : Bool) (u : St2), ct_ev ct_tK cd n f p b = some b' → p + f = n → ct_O W R ff L u →
      match u with | (f0, f1, f2, f3, f4, f5, a1, a2, a3, a4, a5, a6, a7, a8, a9, a10, a11, a12, a13) => wX_kinds_33 post J (nI n) (nI s) (nI pre.length) (f + 1) (bif b then 1 else 0) (nI p) f0 f1 f2 f3 f4 f5 a1 a2 a3 a4 a5 a6 a7 a8 a9 a10 a11 a12 a13 := by
  intro f
  induction f with
  | zero =>
    intro p b u h hp hO
    have e : b = b' := Option.some.inj h
    subst e
    have t := HJ u hO
    obtain ⟨f0, f1, f2, f3, f4, f5, a1, a2, a3, a4, a5, a6, a7, a8, a9, a10, a11, a12, a13⟩ := u
    refine pk_le n p (fun _ => ?_) (fun z => absurd z (by omega))
    cases b with
    | false => exact br_t rfl (nm_r (nI_1 _) t)
    | true => exact br_f (by decide) (nm_r (nI_1 _) (nm_r (nI_1 _) t))
  | succ f ih =>
    intro p b u h hp hO
    rw [ct_ev, ct_fc_eq] at h
    obtain ⟨f0, f1, f2, f3, f4, f5, a1, a2, a3, a4, a5, a6, a7, a8, a9, a10, a11, a12, a13⟩ := u
    rcases Nat.lt_or_ge (ct_cmp cd n p) 9 with g | g
    · rw [ct_bf g, cond_false] at h
      refine pk_le n p (fun z => absurd z (by omega)) (fun _ => ct_compare hO hL hn (by omega) g (fun u' h' => ?_))
      cases b with
      | false =>
        have t := ih (p + 1) false u' h (by omega) h'
        obtain ⟨f0x, f1x, f2x, f3x, f4x, f5x, a1x, a2x, a3x, a4x, a5x, a6x, a7x, a8x, a9x, a10x, a11x, a12x, a13x⟩ := u'
        exact br_t rfl (nm_r (nI_1 p) t)
      | true =>
        rw [cond_true] at h
        have t1 : ct_tK (ct_cmp cd n p) = true → _ := fun z => ih (p + 1) true u' (by rw [z] at h; exact h) (by omega) h'
        have t0 : ct_tK (ct_cmp cd n p) = false → _ := fun z => ih (p + 1) false u' (by rw [z] at h; exact h) (by omega) h'
        obtain ⟨f0x, f1x, f2x, f3x, f4x, f5x, a1x, a2x, a3x, a4x, a5x, a6x, a7x, a8x, a9x, a10x, a11x, a12x, a13x⟩ := u'
        exact br_f (by decide) (ct_vneg (ct_cmp cd n p) rfl g (fun z => nm_r (nI_1 p) (t0 (ct_bf (by omega)))) (fun z => nm_r (nI_1 p) (t1 (ct_bt (by omega)))))
    · rw [ct_bt g] at h
      exact absurd h.symm (Option.some_ne_none b')
theorem ct_kinds_out {post : Int32 → St2 → Prop} {W : List Nat} {R : List (List Nat)} {ff n v : Nat} {L : List Nat} (hn : n ≤ 5) (H : ∀ u', ct_O W R ff L u' → post (nI v) u') :
    ∀ (cs pre : List Nat) (s : Nat) (u : St2), L = pre ++ cs → ct_cnt ct_tK n cs s = some v → ct_O W R ff L u → match u with | (f0, f1, f2, f3, f4, f5, a1, a2, a3, a4, a5, a6, a7, a8, a9, a10, a11, a12, a13) => wX_kinds_19 post (nI n) (cs.length + 1) (nI s) (nI pre.length) f0 f1 f2 f3 f4 f5 a1 a2 a3 a4 a5 a6 a7 a8 a9 a10 a11 a12 a13 := by
  intro cs
  induction cs with
  | nil =>
    intro pre s u hL h hO
    have e : s = v := Option.some.inj h
    subst e
    rw [List.append_nil] at hL
    subst hL
    obtain ⟨f0, f1, f2, f3, f4, f5, a1, a2, a3, a4, a5, a6, a7, a8, a9, a10, a11, a12, a13⟩ := u
    have hl : L.length ≤ 500 := hO.2.2.1.2.2.2.1
    exact pk_le L.length L.length (fun _ => H _ hO) (fun z => absurd z (by omega)) hO.2.2.1.2.2.1
  | cons c cs ih =>
    intro pre s u hL h hO
    rw [ct_cnt] at h
    cases hb : ct_ev ct_tK c n n 0 true with
    | none =>
      rw [hb] at h
      exact absurd h.symm (Option.some_ne_none v)
    | some b =>
      rw [hb] at h
      have hJ : ∀ u', ct_O W R ff L u' → match u' with | (f0, f1, f2, f3, f4, f5, a1, a2, a3, a4, a5, a6, a7, a8, a9, a10, a11, a12, a13) => wX_kinds_19 post (nI n) (cs.length + 1) (nI (bif b then s + 1 else s)) (nI (pre.length + 1)) f0 f1 f2 f3 f4 f5 a1 a2 a3 a4 a5 a6 a7 a8 a9 a10 a11 a12 a13 := by
        intro u' h'
        have t := ih (pre ++ [c]) (bif b then s + 1 else s) u' (by rw [hL, List.append_assoc]; rfl) (by cases b with
          | false => exact h
          | true => exact h) h'
        rw [List.length_append] at t
        exact t
      have t := ct_kinds_in (post := post) hL hn hJ n 0 true u hb (by omega) hO
      have hl : L.length ≤ 500 ∧ pre.length < L.length := by
        have e := congrArg List.length hL
        rw [List.length_append, List.length_cons] at e
        obtain ⟨f0, f1, f2, f3, f4, f5, a1, a2, a3, a4, a5, a6, a7, a8, a9, a10, a11, a12, a13⟩ := u
        have hl : L.length ≤ 500 := hO.2.2.1.2.2.2.1
        exact ⟨hl, by omega⟩
      obtain ⟨f0, f1, f2, f3, f4, f5, a1, a2, a3, a4, a5, a6, a7, a8, a9, a10, a11, a12, a13⟩ := u
      exact pk_le L.length pre.length (fun z => absurd z (by omega)) (fun _ => ⟨_, t⟩) hO.2.2.1.2.2.1
theorem ct_kinds {post : Int32 → St2 → Prop} {u : St2} {W : List Nat} {R : List (List Nat)} {ff n v : Nat} {L L' : List Nat} (hO : ct_O W R ff L u) (h1 : 1 ≤ n) (h5 : n ≤ 5) (hF : ct_find R n = some L') (hv : ct_cnt ct_tK n L' 0 = some v)
    (H : ∀ u', ct_O W R n L' u' → post (nI v) u') : wpX_kinds post u (nI n) := by
  obtain ⟨f0, f1, f2, f3, f4, f5, a1, a2, a3, a4, a5, a6, a7, a8, a9, a10, a11, a12, a13⟩ := u
  unfold wpX_kinds
  dsimp only
  refine ct_bad h1 h5 (br_t rfl (ct_find_wp hO h1 h5 hF (fun u' h' => ?_)))
  have t := ct_kinds_out h5 H L' [] 0 u' rfl hv h'
  obtain ⟨f0x, f1x, f2x, f3x, f4x, f5x, a1x, a2x, a3x, a4x, a5x, a6x, a7x, a8x, a9x, a10x, a11x, a12x, a13x⟩ := u'
  exact ⟨_, t⟩
theorem ct_even_in {post : Int32 → St2 → Prop} {J : Int32 → Int32 → Int32 → Int32 → Int32 → Int32 → Int32 → Int32 → (Nat → Int32) → (Nat → Int32) → (Nat → Int32) → (Nat → Int32) → (Nat → Int32) → (Nat → Int32) → (Nat → Int32) → (Nat → Int64) → (Nat → Int32) → (Nat → Int32) → (Nat → Int32) → (Nat → Int32) → (Nat → Int32) → Prop}
    {W : List Nat} {R : List (List Nat)} {ff n cd s : Nat} {b' : Bool} {L pre cs : List Nat} (hL : L = pre ++ cd :: cs) (hn : n ≤ 5)
    (HJ : ∀ u', ct_O W R ff L u' → match u' with | (f0, f1, f2, f3, f4, f5, a1, a2, a3, a4, a5, a6, a7, a8, a9, a10, a11, a12, a13) => J (nI (bif b' then s + 1 else s)) (nI (pre.length + 1)) f0 f1 f2 f3 f4 f5 a1 a2 a3 a4 a5 a6 a7 a8 a9 a10 a11 a12 a13) :
    ∀ (f p : Nat) (b : Bool) (u : St2), ct_ev ct_tE cd n f p b = some b' → p + f = n → ct_O W R ff L u →
      match u with | (f0, f1, f2, f3, f4, f5, a1, a2, a3, a4, a5, a6, a7, a8, a9, a10, a11, a12, a13) => wX_even_33 post J (nI n) (nI s) (nI pre.length) (f + 1) (bif b then 1 else 0) (nI p) f0 f1 f2 f3 f4 f5 a1 a2 a3 a4 a5 a6 a7 a8 a9 a10 a11 a12 a13 := by
  intro f
  induction f with
  | zero =>
    intro p b u h hp hO
    have e : b = b' := Option.some.inj h
    subst e
    have t := HJ u hO
    obtain ⟨f0, f1, f2, f3, f4, f5, a1, a2, a3, a4, a5, a6, a7, a8, a9, a10, a11, a12, a13⟩ := u
    refine pk_le n p (fun _ => ?_) (fun z => absurd z (by omega))
    cases b with
    | false => exact br_t rfl (nm_r (nI_1 _) t)
    | true => exact br_f (by decide) (nm_r (nI_1 _) (nm_r (nI_1 _) t))
  | succ f ih =>
    intro p b u h hp hO
    rw [ct_ev, ct_fc_eq] at h
    obtain ⟨f0, f1, f2, f3, f4, f5, a1, a2, a3, a4, a5, a6, a7, a8, a9, a10, a11, a12, a13⟩ := u
    rcases Nat.lt_or_ge (ct_cmp cd n p) 9 with g | g
    · rw [ct_bf g, cond_false] at h
      refine pk_le n p (fun z => absurd z (by omega)) (fun _ => ct_compare hO hL hn (by omega) g (fun u' h' => ?_))
      cases b with
      | false =>
        have t := ih (p + 1) false u' h (by omega) h'
        obtain ⟨f0x, f1x, f2x, f3x, f4x, f5x, a1x, a2x, a3x, a4x, a5x, a6x, a7x, a8x, a9x, a10x, a11x, a12x, a13x⟩ := u'
        exact br_t rfl (nm_r (nI_1 p) t)
      | true =>
        rw [cond_true] at h
        have t1 : ct_tE (ct_cmp cd n p) = true → _ := fun z => ih (p + 1) true u' (by rw [z] at h; exact h) (by omega) h'
        have t0 : ct_tE (ct_cmp cd n p) = false → _ := fun z => ih (p + 1) false u' (by rw [z] at h; exact h) (by omega) h'
        obtain ⟨f0x, f1x, f2x, f3x, f4x, f5x, a1x, a2x, a3x, a4x, a5x, a6x, a7x, a8x, a9x, a10x, a11x, a12x, a13x⟩ := u'
        exact br_f (by decide) (ct_vone (ct_cmp cd n p) rfl g (fun z => nm_r (nI_1 p) (t1 (ct_et z))) (fun z => nm_r (nI_1 p) (t0 (ct_ef z))))
    · rw [ct_bt g] at h
      exact absurd h.symm (Option.some_ne_none b')
theorem ct_even_out {post : Int32 → St2 → Prop} {W : List Nat} {R : List (List Nat)} {ff n v : Nat} {L : List Nat} (hn : n ≤ 5) (H : ∀ u', ct_O W R ff L u' → post (nI v) u') :
    ∀ (cs pre : List Nat) (s : Nat) (u : St2), L = pre ++ cs → ct_cnt ct_tE n cs s = some v → ct_O W R ff L u → match u with | (f0, f1, f2, f3, f4, f5, a1, a2, a3, a4, a5, a6, a7, a8, a9, a10, a11, a12, a13) => wX_even_19 post (nI n) (cs.length + 1) (nI s) (nI pre.length) f0 f1 f2 f3 f4 f5 a1 a2 a3 a4 a5 a6 a7 a8 a9 a10 a11 a12 a13 := by
  intro cs
  induction cs with
  | nil =>
    intro pre s u hL h hO
    have e : s = v := Option.some.inj h
    subst e
    rw [List.append_nil] at hL
    subst hL
    obtain ⟨f0, f1, f2, f3, f4, f5, a1, a2, a3, a4, a5, a6, a7, a8, a9, a10, a11, a12, a13⟩ := u
    have hl : L.length ≤ 500 := hO.2.2.1.2.2.2.1
    exact pk_le L.length L.length (fun _ => H _ hO) (fun z => absurd z (by omega)) hO.2.2.1.2.2.1
  | cons c cs ih =>
    intro pre s u hL h hO
    rw [ct_cnt] at h
    cases hb : ct_ev ct_tE c n n 0 true with
    | none =>
      rw [hb] at h
      exact absurd h.symm (Option.some_ne_none v)
    | some b =>
      rw [hb] at h
      have hJ : ∀ u', ct_O W R ff L u' → match u' with | (f0, f1, f2, f3, f4, f5, a1, a2, a3, a4, a5, a6, a7, a8, a9, a10, a11, a12, a13) => wX_even_19 post (nI n) (cs.length + 1) (nI (bif b then s + 1 else s)) (nI (pre.length + 1)) f0 f1 f2 f3 f4 f5 a1 a2 a3 a4 a5 a6 a7 a8 a9 a10 a11 a12 a13 := by
        intro u' h'
        have t := ih (pre ++ [c]) (bif b then s + 1 else s) u' (by rw [hL, List.append_assoc]; rfl) (by cases b with
          | false => exact h
          | true => exact h) h'
        rw [List.length_append] at t
        exact t
      have t := ct_even_in (post := post) hL hn hJ n 0 true u hb (by omega) hO
      have hl : L.length ≤ 500 ∧ pre.length < L.length := by
        have e := congrArg List.length hL
        rw [List.length_append, List.length_cons] at e
        obtain ⟨f0, f1, f2, f3, f4, f5, a1, a2, a3, a4, a5, a6, a7, a8, a9, a10, a11, a12, a13⟩ := u
        have hl : L.length ≤ 500 := hO.2.2.1.2.2.2.1
        exact ⟨hl, by omega⟩
      obtain ⟨f0, f1, f2, f3, f4, f5, a1, a2, a3, a4, a5, a6, a7, a8, a9, a10, a11, a12, a13⟩ := u
      exact pk_le L.length pre.length (fun z => absurd z (by omega)) (fun _ => ⟨_, t⟩) hO.2.2.1.2.2.1
theorem ct_even {post : Int32 → St2 → Prop} {u : St2} {W : List Nat} {R : List (List Nat)} {ff n v : Nat} {L L' : List Nat} (hO : ct_O W R ff L u) (h1 : 1 ≤ n) (h5 : n ≤ 5) (hF : ct_find R n = some L') (hv : ct_cnt ct_tE n L' 0 = some v)
    (H : ∀ u', ct_O W R n L' u' → post (nI v) u') : wpX_even post u (nI n) := by
  obtain ⟨f0, f1, f2, f3, f4, f5, a1, a2, a3, a4, a5, a6, a7, a8, a9, a10, a11, a12, a13⟩ := u
  unfold wpX_even
  dsimp only
  refine ct_bad h1 h5 (br_t rfl (ct_find_wp hO h1 h5 hF (fun u' h' => ?_)))
  have t := ct_even_out h5 H L' [] 0 u' rfl hv h'
  obtain ⟨f0x, f1x, f2x, f3x, f4x, f5x, a1x, a2x, a3x, a4x, a5x, a6x, a7x, a8x, a9x, a10x, a11x, a12x, a13x⟩ := u'
  exact ⟨_, t⟩
end
section
/-! Words in tables: wordFrom, fixing, still, period. -/
theorem ct_wd_walk {post : Int32 → Prop} {f0 f1 f2 f3 f4 f5 : Int32} {a1 a2 a3 a4 a5 a6 a7 : Nat → Int32} {a8 : Nat → Int64} {a9 a10 a11 a12 a13 : Nat → Int32} {k cd : Nat} (hk : k < 500) (h8 : a8 k = lN cd) (hc : cd < 2 ^ 60) :
    ∀ (ls : List Nat) (i a : Nat), ct_W a1 i ls → f0 = nI (i + ls.length) → i + ls.length ≤ 8 → ct_wd cd ls a < 9 → post (nI (ct_wd cd ls a)) → wX_wordFrom_5 post (nI k) f0 f1 f2 f3 f4 f5 a1 a2 a3 a4 a5 a6 a7 a8 a9 a10 a11 a12 a13 (ls.length + 1) (nI a) (nI i) := by
  intro ls
  induction ls with
  | nil =>
    intro i a hw h0 hi h9 h
    exact pk_le i i (fun _ => h) (fun z => absurd z (by omega)) h0
  | cons l ls ih =>
    intro i a hw h0 hi h9 h
    rw [List.length_cons] at h0 hi
    rw [ct_wd] at h9 h
    rcases Nat.lt_or_ge a 5 with g | g
    · rw [ct_bf g, cond_false, ct_fc_eq] at h9 h
      have hl := hw.1.2
      refine pk_le (i + (ls.length + 1)) i (fun z => absurd z (by omega)) (fun _ => ⟨pk_in i 8 (by omega), ct_image hk h8 hc (p := a) (l := l) rfl (ct_at rfl (by omega) hw.1.1) (by omega) (nm_r (nI_1 i) (ih (i + 1) _ hw.2 ?_ (by omega) h9 h))⟩) h0
      rw [h0]
      congr 1
      omega
    · rw [ct_bt g] at h9
      exact absurd h9 (Nat.lt_irrefl 9)
theorem ct_word {post : Int32 → Prop} {u : St2} {W : List Nat} {R : List (List Nat)} {ff cd a : Nat} {L pre cs : List Nat} (hO : ct_O W R ff L u) (hL : L = pre ++ cd :: cs) (h9 : ct_wd cd W a < 9) (H : post (nI (ct_wd cd W a))) :
    wpX_wordFrom post u (nI pre.length) (nI a) := by
  obtain ⟨f0, f1, f2, f3, f4, f5, a1, a2, a3, a4, a5, a6, a7, a8, a9, a10, a11, a12, a13⟩ := u
  obtain ⟨⟨e0, hw8, hW⟩, hR, ⟨e4, hff, e5, hlen, hA⟩, hcc⟩ := hO
  rw [hL] at hA
  obtain ⟨h8, hc⟩ := ct_A_get pre 0 hA
  rw [Nat.zero_add] at h8
  have hk : pre.length < 500 := by
    rw [hL, List.length_append, List.length_cons] at hlen
    omega
  exact ⟨_, ct_wd_walk hk h8 hc W 0 a hW (by rw [Nat.zero_add]; exact e0) (by omega) h9 H⟩
theorem ct_fix_out {post : Int32 → St2 → Prop} {f0 f1 f2 f3 f4 f5 : Int32} {a1 a2 a3 a4 a5 a6 a7 : Nat → Int32} {a8 : Nat → Int64} {a9 a10 a11 a12 a13 : Nat → Int32} {W : List Nat} {R : List (List Nat)} {ff v : Nat} {L : List Nat} (hO : ct_O W R ff L (f0, f1, f2, f3, f4, f5, a1, a2, a3, a4, a5, a6, a7, a8, a9, a10, a11, a12, a13)) (H : post (nI v) (f0, f1, f2, f3, f4, f5, a1, a2, a3, a4, a5, a6, a7, a8, a9, a10, a11, a12, a13)) :
    ∀ (cs pre : List Nat) (s : Nat), L = pre ++ cs → ct_fx W cs s = some v → wX_fixing_19 post f0 f1 f2 f3 f4 f5 a1 a2 a3 a4 a5 a6 a7 a8 a9 a10 a11 a12 a13 (cs.length + 1) (nI s) (nI pre.length) := by
  have hl : L.length ≤ 500 := hO.2.2.1.2.2.2.1
  have e5 : f5 = nI L.length := hO.2.2.1.2.2.1
  intro cs
  induction cs with
  | nil =>
    intro pre s hL h
    have e : s = v := Option.some.inj h
    subst e
    rw [List.append_nil] at hL
    subst hL
    exact pk_le L.length L.length (fun _ => H) (fun z => absurd z (by omega)) e5
  | cons c cs ih =>
    intro pre s hL h
    rw [ct_fx, ct_fc_eq] at h
    have hpl : pre.length < L.length := by
      have e := congrArg List.length hL
      rw [List.length_append, List.length_cons] at e
      omega
    rcases Nat.lt_or_ge (ct_wd c W 0) 9 with g | g
    · rw [ct_bf g, cond_false] at h
      refine pk_le L.length pre.length (fun z => absurd z (by omega)) (fun _ => ct_word hO hL g (pk_eq (ct_wd c W 0) 0 (fun z => ?_) (fun z => ?_))) e5
      · rw [ct_et z, cond_true] at h
        have t := ih (pre ++ [c]) (s + 1) (by rw [hL, List.append_assoc]; rfl) h
        rw [List.length_append] at t
        exact nm_r (nI_1 _) (nm_r (nI_1 _) t)
      · rw [ct_ef z, cond_false] at h
        have t := ih (pre ++ [c]) s (by rw [hL, List.append_assoc]; rfl) h
        rw [List.length_append] at t
        exact nm_r (nI_1 _) t
    · rw [ct_bt g] at h
      exact absurd h.symm (Option.some_ne_none v)
theorem ct_fixing {post : Int32 → St2 → Prop} {u : St2} {W : List Nat} {R : List (List Nat)} {ff n v : Nat} {L L' : List Nat} (hO : ct_O W R ff L u) (h1 : 1 ≤ n) (h5 : n ≤ 5) (hF : ct_find R n = some L') (hv : ct_fx W L' 0 = some v)
    (H : ∀ u', ct_O W R n L' u' → post (nI v) u') : wpX_fixing post u (nI n) := by
  obtain ⟨f0, f1, f2, f3, f4, f5, a1, a2, a3, a4, a5, a6, a7, a8, a9, a10, a11, a12, a13⟩ := u
  unfold wpX_fixing
  dsimp only
  refine ct_bad h1 h5 (br_t rfl (ct_find_wp hO h1 h5 hF (fun u' h' => ?_)))
  have t := H u' h'
  obtain ⟨f0x, f1x, f2x, f3x, f4x, f5x, a1x, a2x, a3x, a4x, a5x, a6x, a7x, a8x, a9x, a10x, a11x, a12x, a13x⟩ := u'
  exact ⟨_, ct_fix_out h' t L' [] 0 rfl hv⟩
theorem ct_still_out {post : Int32 → St2 → Prop} {W : List Nat} {R : List (List Nat)} (hF : ∀ n, 1 ≤ n → n ≤ 5 → ∃ L, ct_find R n = some L ∧ ct_fx W L 0 = some L.length)
    (H : ∀ u' L' , ct_O W R 5 L' u' → post 1 u') :
    ∀ (k n : Nat) (ff : Nat) (L : List Nat) (u : St2), n + k = 6 → 1 ≤ n → (n = 6 → ff = 5) → ct_O W R ff L u → match u with | (f0, f1, f2, f3, f4, f5, a1, a2, a3, a4, a5, a6, a7, a8, a9, a10, a11, a12, a13) => wX_still_4 post (k + 1) 1 (nI n) f0 f1 f2 f3 f4 f5 a1 a2 a3 a4 a5 a6 a7 a8 a9 a10 a11 a12 a13 := by
  intro k
  induction k with
  | zero =>
    intro n ff L u hn h1 h6 hO
    have e := h6 (by omega)
    subst e
    have t := H u L hO
    obtain ⟨f0, f1, f2, f3, f4, f5, a1, a2, a3, a4, a5, a6, a7, a8, a9, a10, a11, a12, a13⟩ := u
    exact pk_lt 5 n (fun _ => br_f (by decide) t) (fun z => absurd z (by omega))
  | succ k ih =>
    intro n ff L u hn h1 h6 hO
    obtain ⟨Ln, hLn, hx⟩ := hF n h1 (by omega)
    have key : ∀ u', ct_O W R n Ln u' → match u' with | (f0, f1, f2, f3, f4, f5, a1, a2, a3, a4, a5, a6, a7, a8, a9, a10, a11, a12, a13) => wX_still_4 post (k + 1) 1 (nI (n + 1)) f0 f1 f2 f3 f4 f5 a1 a2 a3 a4 a5 a6 a7 a8 a9 a10 a11 a12 a13 := fun u' h' => ih (n + 1) n Ln u' (by omega) (by omega) (fun z => by omega) h'
    obtain ⟨f0, f1, f2, f3, f4, f5, a1, a2, a3, a4, a5, a6, a7, a8, a9, a10, a11, a12, a13⟩ := u
    refine pk_lt 5 n (fun z => absurd z (by omega)) (fun _ => br_f (by decide) (ct_fixing hO h1 (by omega) hLn hx (fun u' h' => ?_)))
    have t := key u' h'
    obtain ⟨f0x, f1x, f2x, f3x, f4x, f5x, a1x, a2x, a3x, a4x, a5x, a6x, a7x, a8x, a9x, a10x, a11x, a12x, a13x⟩ := u'
    exact br_t h'.2.2.1.2.2.1.symm (nm_r (nI_1 n) t)
theorem ct_still {post : Int32 → St2 → Prop} {u : St2} {W : List Nat} {R : List (List Nat)} {ff : Nat} {L : List Nat} (hO : ct_O W R ff L u) (hF : ∀ n, 1 ≤ n → n ≤ 5 → ∃ L, ct_find R n = some L ∧ ct_fx W L 0 = some L.length)
    (H : ∀ u' L' , ct_O W R 5 L' u' → post 1 u') : wpX_still post u := by
  have t := ct_still_out hF H 5 1 ff L u (by omega) (by omega) (fun z => absurd z (by omega)) hO
  obtain ⟨f0, f1, f2, f3, f4, f5, a1, a2, a3, a4, a5, a6, a7, a8, a9, a10, a11, a12, a13⟩ := u
  exact ⟨_, t⟩
theorem ct_per_out {post : Int32 → St2 → Prop} {f0 f1 f2 f3 f4 f5 : Int32} {a1 a2 a3 a4 a5 a6 a7 : Nat → Int32} {a8 : Nat → Int64} {a9 a10 a11 a12 a13 : Nat → Int32} {W : List Nat} {R : List (List Nat)} {ff cd v : Nat} {L pre cs : List Nat} (hO : ct_O W R ff L (f0, f1, f2, f3, f4, f5, a1, a2, a3, a4, a5, a6, a7, a8, a9, a10, a11, a12, a13)) (hL : L = pre ++ cd :: cs) (hv : 1 ≤ v) (H : post (nI v) (f0, f1, f2, f3, f4, f5, a1, a2, a3, a4, a5, a6, a7, a8, a9, a10, a11, a12, a13)) :
    ∀ (f m a : Nat), m ≤ 5 → ct_pe cd W f m a = v → wX_period_40 post (nI pre.length) f0 f1 f2 f3 f4 f5 a1 a2 a3 a4 a5 a6 a7 a8 a9 a10 a11 a12 a13 f (nI m) (nI a) := by
  intro f
  induction f with
  | zero =>
    intro m a hm h
    have h' : 0 = v := h
    omega
  | succ f ih =>
    intro m a hm h
    rw [ct_pe] at h
    rcases Nat.lt_or_ge a 9 with g | g
    · rw [ct_bf g, cond_false] at h
      refine pk_eq a 0 (fun z => ?_) (fun z => pk_le 5 m (fun y => ?_) (fun y => ?_))
      · rw [ct_et z, cond_true] at h
        rw [h]
        exact H
      · rw [ct_ef z, ct_bt y, cond_false, cond_true] at h
        rw [h]
        exact H
      · rw [ct_ef z, ct_bf y, cond_false, cond_false, ct_fc_eq] at h
        rcases Nat.lt_or_ge (ct_wd cd W a) 9 with x | x
        · exact ct_word hO hL x (nm_r (nI_1 m) (ih (m + 1) _ (by omega) h))
        · exfalso
          cases f with
          | zero => have h' : 0 = v := h; omega
          | succ f =>
            rw [ct_pe, ct_bt x] at h
            have h' : 0 = v := h
            omega
    · rw [ct_bt g] at h
      have h' : 0 = v := h
      omega
theorem ct_period {post : Int32 → St2 → Prop} {u : St2} {W : List Nat} {R : List (List Nat)} {ff n cd v : Nat} {L L' pre cs : List Nat} (hO : ct_O W R ff L u) (h1 : 1 ≤ n) (h5 : n ≤ 5) (hF : ct_find R n = some L') (hL : L' = pre ++ cd :: cs) (hv : 1 ≤ v)
    (hp : ct_pe cd W 6 1 (ct_wd cd W 0) = v) (H : ∀ u', ct_O W R n L' u' → post (nI v) u') : wpX_period post u (nI n) (nI pre.length) := by
  obtain ⟨f0, f1, f2, f3, f4, f5, a1, a2, a3, a4, a5, a6, a7, a8, a9, a10, a11, a12, a13⟩ := u
  unfold wpX_period
  dsimp only
  refine ct_bad h1 h5 (br_t rfl (ct_find_wp hO h1 h5 hF (fun u' h' => ?_)))
  have t := H u' h'
  obtain ⟨f0x, f1x, f2x, f3x, f4x, f5x, a1x, a2x, a3x, a4x, a5x, a6x, a7x, a8x, a9x, a10x, a11x, a12x, a13x⟩ := u'
  have hl : L'.length ≤ 500 := h'.2.2.1.2.2.2.1
  have hpl : pre.length < L'.length := by
    have e := congrArg List.length hL
    rw [List.length_append, List.length_cons] at e
    omega
  have h9 : ct_wd cd W 0 < 9 := by
    rcases Nat.lt_or_ge (ct_wd cd W 0) 9 with z | z
    · exact z
    · rw [ct_pe, ct_bt z] at hp
      have h' : 0 = v := hp
      omega
  exact br_f (nI_pos (by omega)) (pk_lt pre.length L'.length (fun _ => ct_word h' hL h9 ⟨6, ct_per_out h' hL hv t 6 1 _ (by omega) hp⟩) (fun z => absurd z (by omega)) rfl h'.2.2.1.2.2.1)
theorem ct_period_none {post : Int32 → St2 → Prop} {u : St2} {W : List Nat} {R : List (List Nat)} {ff n : Nat} {L L' : List Nat} (hO : ct_O W R ff L u) (h1 : 1 ≤ n) (h5 : n ≤ 5) (hF : ct_find R n = some L')
    (H : ∀ u', post (-4) u') : wpX_period post u (nI n) 500 := by
  obtain ⟨f0, f1, f2, f3, f4, f5, a1, a2, a3, a4, a5, a6, a7, a8, a9, a10, a11, a12, a13⟩ := u
  unfold wpX_period
  dsimp only
  refine ct_bad h1 h5 (br_t rfl (ct_find_wp hO h1 h5 hF (fun u' h' => ?_)))
  have t := H u'
  obtain ⟨f0x, f1x, f2x, f3x, f4x, f5x, a1x, a2x, a3x, a4x, a5x, a6x, a7x, a8x, a9x, a10x, a11x, a12x, a13x⟩ := u'
  have hl : L'.length ≤ 500 := h'.2.2.1.2.2.2.1
  exact br_f (by decide) (pk_lt 500 L'.length (fun z => absurd z (by omega)) (fun _ => t) rfl h'.2.2.1.2.2.1)
end
section
/-! Divisors: greatest, excess, cyclic, and the law's both. -/
theorem ct_gcd_step (a b : Nat) : Nat.gcd b (a % b) = Nat.gcd a b := by
  rw [Nat.gcd_comm a b, Nat.gcd_rec b a, Nat.gcd_comm]
theorem ct_gr_walk {post : Int32 → Prop} {f0 f1 f2 f3 f4 f5 : Int32} {a1 a2 a3 a4 a5 a6 a7 : Nat → Int32} {a8 : Nat → Int64} {a9 a10 a11 a12 a13 : Nat → Int32} : ∀ (f a b : Nat), b < f → a < 2 ^ 31 → b < 2 ^ 31 → post (nI (Nat.gcd a b)) → wX_greatest_23 post f0 f1 f2 f3 f4 f5 a1 a2 a3 a4 a5 a6 a7 a8 a9 a10 a11 a12 a13 f (nI a) (nI b) := by
  intro f
  induction f with
  | zero => intro a b h; omega
  | succ f ih =>
    intro a b hb ha hb' h
    refine pk_le b 0 (fun z => ?_) (fun z => ⟨nI_ne0 z hb', nm_r (pk_rem ha z hb') (ih b (a % b) ?_ hb' ?_ ?_)⟩)
    · have e : b = 0 := by omega
      rw [e, Nat.gcd_zero_right] at h
      exact h
    · have := Nat.mod_lt a z
      omega
    · have := Nat.mod_lt a z
      omega
    · rw [ct_gcd_step]
      exact h
theorem ct_great {post : Int32 → Prop} {u : St2} {a b : Nat} {x y : Int32} (hx : x = nI a) (hy : y = nI b ∨ y = -nI b) (ha : a < 2 ^ 31) (hb : b < 2 ^ 31) (H : post (nI (Nat.gcd a b))) : wpX_greatest post u x y := by
  subst hx
  obtain ⟨f0, f1, f2, f3, f4, f5, a1, a2, a3, a4, a5, a6, a7, a8, a9, a10, a11, a12, a13⟩ := u
  refine br_t (nI_pos' ha) ?_
  rcases hy with hy | hy
  · subst hy
    exact br_t (nI_pos' hb) ⟨_, ct_gr_walk (b + 1) a b (by omega) ha hb H⟩
  · subst hy
    by_cases e : b = 0
    · subst e
      exact br_t (by decide) ⟨_, ct_gr_walk 1 a 0 (by omega) ha hb H⟩
    · refine br_f (fun z => ?_) (nm_r (Int32.neg_neg) ⟨_, ct_gr_walk (b + 1) a b (by omega) ha hb H⟩)
      have t := Int32.le_iff_toInt_le.mp z
      rw [sb_negT hb] at t
      have t0 : (0 : Int32).toInt = 0 := by decide
      rw [t0] at t
      omega
/-- how often a letter stands in a word -/
def ct_ct (l : Nat) : List Nat → Nat
  | [] => 0
  | x :: xs => (if x = l then 1 else 0) + ct_ct l xs
theorem ct_ct_le (l : Nat) : ∀ ls : List Nat, ct_ct l ls ≤ ls.length := by
  intro ls
  induction ls with
  | nil => exact Nat.le_refl 0
  | cons x xs ih =>
    rw [ct_ct, List.length_cons]
    split <;> omega
theorem ct_up1 (p m : Nat) : (nI p - nI m) + 1 = nI (p + 1) - nI m := by
  rw [nI_succ]; grind
theorem ct_dn1 (p m : Nat) : (nI p - nI m) - 1 = nI p - nI (m + 1) := by
  rw [nI_succ]; grind
theorem ct_ex_walk {post : Int32 → Prop} {f0 f1 f2 f3 f4 f5 : Int32} {a1 a2 a3 a4 a5 a6 a7 : Nat → Int32} {a8 : Nat → Int64} {a9 a10 a11 a12 a13 : Nat → Int32} {k l : Nat} (hk : k < 4) (hl : l < 4) :
    ∀ (ls : List Nat) (i p m : Nat), ct_W a3 (8 * k + i) ls → a2 k = nI (i + ls.length) → i + ls.length ≤ 8 → post (nI (p + ct_ct l ls) - nI (m + ct_ct (l + 1) ls)) →
      wX_excess_5 post (nI k) (nI l) f0 f1 f2 f3 f4 f5 a1 a2 a3 a4 a5 a6 a7 a8 a9 a10 a11 a12 a13 (ls.length + 1) (nI p - nI m) (nI i) := by
  intro ls
  induction ls with
  | nil =>
    intro i p m hw h2 h8 h
    exact ⟨pk_in k 4 hk, pk_le i i (fun _ => h) (fun z => absurd z (by omega)) (ct_at rfl (by omega) h2)⟩
  | cons x xs ih =>
    intro i p m hw h2 h8 h
    rw [List.length_cons] at h2 h8
    rw [ct_ct, ct_ct] at h
    have hx := hw.1.2
    have e2 : a2 k = nI (i + 1 + xs.length) := by rw [h2]; congr 1; omega
    refine ⟨pk_in k 4 hk, pk_le (i + (xs.length + 1)) i (fun z => absurd z (by omega)) (fun _ => ⟨pk_in (8 * k + i) 32 (by omega) (ct_8 k i), nm_r (ct_at (ct_8 k i) (by omega) hw.1.1) (pk_eq x l (fun e => ?_) (fun e => pk_eq x (l + 1) (fun e' => ?_) (fun e' => ?_) rfl (nI_1 l)))⟩) (ct_at rfl (by omega) h2)⟩
    · rw [if_pos e, if_neg (by omega), ← Nat.add_assoc, Nat.zero_add] at h
      exact nm_r (ct_up1 p m) (nm_r (nI_1 i) (ih (i + 1) (p + 1) m hw.2 e2 (by omega) h))
    · rw [if_neg e, if_pos e', Nat.zero_add, ← Nat.add_assoc] at h
      exact nm_r (ct_dn1 p m) (nm_r (nI_1 i) (ih (i + 1) p (m + 1) hw.2 e2 (by omega) h))
    · rw [if_neg e, if_neg e', Nat.zero_add, Nat.zero_add] at h
      exact nm_r (nI_1 i) (ih (i + 1) p m hw.2 e2 (by omega) h)
theorem ct_R_get {a2 a3 : Nat → Int32} {r : List Nat} {rs : List (List Nat)} : ∀ (pre : List (List Nat)) (k : Nat), ct_R a2 a3 k (pre ++ r :: rs) → a2 (k + pre.length) = nI r.length ∧ r.length ≤ 8 ∧ ct_W a3 (8 * (k + pre.length)) r := by
  intro pre
  induction pre with
  | nil => intro k h; exact h.1
  | cons x xs ih =>
    intro k h
    have t := ih (k + 1) h.2
    rw [show k + (x :: xs).length = k + 1 + xs.length from by rw [List.length_cons]; omega]
    exact t
theorem ct_excess {post : Int32 → Prop} {u : St2} {W r : List Nat} {R pre rs : List (List Nat)} {ff l e : Nat} {L : List Nat} (hO : ct_O W R ff L u) (hR : R = pre ++ r :: rs) (hl : l < 4) (he : ct_ct l r = e + ct_ct (l + 1) r)
    (H : post (nI e)) : wpX_excess post u (nI pre.length) (nI l) := by
  obtain ⟨f0, f1, f2, f3, f4, f5, a1, a2, a3, a4, a5, a6, a7, a8, a9, a10, a11, a12, a13⟩ := u
  obtain ⟨hW, ⟨e1, hm, hRR⟩, hx⟩ := hO
  rw [hR] at hRR hm
  obtain ⟨h2, h8, hw⟩ := ct_R_get pre 0 hRR
  rw [Nat.zero_add] at h2 hw
  rw [List.length_append, List.length_cons] at hm
  have t := ct_ex_walk (post := post) (k := pre.length) (l := l) (f0 := f0) (f1 := f1) (f2 := f2) (f3 := f3) (f4 := f4) (f5 := f5) (a1 := a1) (a2 := a2) (a3 := a3) (a4 := a4) (a5 := a5) (a6 := a6) (a7 := a7) (a8 := a8) (a9 := a9) (a10 := a10) (a11 := a11) (a12 := a12) (a13 := a13) (by omega) hl r 0 0 0 hw (by rw [Nat.zero_add]; exact h2) (by omega) (by
    rw [Nat.zero_add, Nat.zero_add, pk_sub (by omega), show ct_ct l r - ct_ct (l + 1) r = e from by omega]
    exact H)
  rw [show nI 0 - nI 0 = nI 0 from by decide] at t
  exact ⟨_, t⟩
def ct_ad (a b : Nat) : Nat := (a - b) + (b - a)
theorem ct_ad_sub (a b : Nat) : nI a - nI b = nI (ct_ad a b) ∨ nI a - nI b = -nI (ct_ad a b) := by
  unfold ct_ad
  rcases Nat.le_total b a with h | h
  · left
    rw [pk_sub h]
    congr 1
    omega
  · right
    rw [show a - b + (b - a) = b - a from by omega, ← pk_sub h]
    grind
/-- the two divisors -/
def ct_cy (X Y : Nat → Nat) (m : Nat) : Nat → Nat → Nat → Nat → Nat × Nat
  | 0, _, one, both => (one, both)
  | f + 1, q, one, both => ct_cy X Y m f (q + 1) (Nat.gcd (Nat.gcd one (X (q / m))) (Y (q / m))) (Nat.gcd both (ct_ad (X (q / m) * Y (q % m)) (Y (q / m) * X (q % m))))
def ct_cyv (o : Nat × Nat) (t : Nat) : Nat := Nat.gcd o.1 t * Nat.gcd (if 0 < o.1 then o.2 / o.1 else 0) t
theorem ct_gcd_le {a b : Nat} (ha : a ≤ 64) (hb : b ≤ 64) : Nat.gcd a b ≤ 64 := by
  rcases Nat.eq_zero_or_pos a with h | h
  · rw [h, Nat.gcd_zero_left]; exact hb
  · exact Nat.le_trans (Nat.gcd_le_left b h) ha
theorem ct_cy_walk {post : Int32 → Prop} {f0 f1 f2 f3 f4 f5 : Int32} {a1 a2 a3 a4 a5 a6 a7 : Nat → Int32} {a8 : Nat → Int64} {a9 a10 a11 a12 a13 : Nat → Int32} {X Y : Nat → Nat} {m t : Nat} (hm1 : 1 ≤ m) (hm : m ≤ 4) (ht : t ≤ 1000) (hf1 : f1 = nI m) (hXb : ∀ k, X k ≤ 8) (hYb : ∀ k, Y k ≤ 8)
    (hX : ∀ k, k < m → ∀ ψ : Int32 → Prop, ψ (nI (X k)) → wpX_excess ψ (f0, f1, f2, f3, f4, f5, a1, a2, a3, a4, a5, a6, a7, a8, a9, a10, a11, a12, a13) (nI k) (nI 0)) (hY : ∀ k, k < m → ∀ ψ : Int32 → Prop, ψ (nI (Y k)) → wpX_excess ψ (f0, f1, f2, f3, f4, f5, a1, a2, a3, a4, a5, a6, a7, a8, a9, a10, a11, a12, a13) (nI k) (nI 2)) :
    ∀ (f q one both : Nat), q + f = m * m → one ≤ 64 → both ≤ 64 → post (nI (ct_cyv (ct_cy X Y m f q one both) t)) → wX_cyclic_21 post (nI t) f0 f1 f2 f3 f4 f5 a1 a2 a3 a4 a5 a6 a7 a8 a9 a10 a11 a12 a13 (f + 1) (nI one) (nI both) (nI q) := by
  subst hf1
  have hmm : m * m ≤ 4 * 4 := Nat.mul_le_mul hm hm
  intro f
  induction f with
  | zero =>
    intro q one both hq h1 h2 h
    refine pk_le (m * m) q (fun _ => pk_le one 0 (fun z => ?_) (fun z => ?_)) (fun z => absurd z (by omega)) (pk_mul m m)
    · refine ct_great (a := one) (b := t) rfl (Or.inl rfl) (by omega) (by omega) (ct_great (a := 0) (b := t) rfl (Or.inl rfl) (by omega) (by omega) ?_)
      rw [pk_mul]
      have e : ct_cyv (ct_cy X Y m 0 q one both) t = Nat.gcd one t * Nat.gcd 0 t := by
        show Nat.gcd one t * Nat.gcd (if 0 < one then both / one else 0) t = _
        rw [if_neg (by omega)]
      rw [e] at h
      exact h
    · have hd : both / one ≤ both := Nat.div_le_self _ _
      refine ⟨nI_ne0 z (by omega), ?_⟩
      rw [pk_div (by omega) z (by omega)]
      refine ct_great (a := one) (b := t) rfl (Or.inl rfl) (by omega) (by omega) (ct_great (a := both / one) (b := t) rfl (Or.inl rfl) (by omega) (by omega) ?_)
      rw [pk_mul]
      have e : ct_cyv (ct_cy X Y m 0 q one both) t = Nat.gcd one t * Nat.gcd (both / one) t := by
        show Nat.gcd one t * Nat.gcd (if 0 < one then both / one else 0) t = _
        rw [if_pos z]
      rw [e] at h
      exact h
  | succ f ih =>
    intro q one both hq h1 h2 h
    rw [ct_cy] at h
    have hne : ¬ nI m = 0 := nI_ne0 (by omega) (by omega)
    have hqd : q / m < m := Nat.div_lt_of_lt_mul (by omega)
    have hqm : q % m < m := Nat.mod_lt q (by omega)
    have b1 : X (q / m) * Y (q % m) ≤ 8 * 8 := Nat.mul_le_mul (hXb _) (hYb _)
    have b2 : Y (q / m) * X (q % m) ≤ 8 * 8 := Nat.mul_le_mul (hYb _) (hXb _)
    have bX := hXb (q / m)
    have bY := hYb (q / m)
    have bad : ct_ad (X (q / m) * Y (q % m)) (Y (q / m) * X (q % m)) ≤ 64 := by
      unfold ct_ad
      omega
    have g1 := ct_gcd_le h1 (show X (q / m) ≤ 64 by omega)
    have g2 := ct_gcd_le g1 (show Y (q / m) ≤ 64 by omega)
    have g3 := ct_gcd_le h2 bad
    refine pk_le (m * m) q (fun z => absurd z (by omega)) (fun _ => ⟨hne, nm_r (pk_div (by omega) (by omega) (by omega)) ⟨hne, nm_r (pk_rem (by omega) (by omega) (by omega)) ?_⟩⟩) (pk_mul m m)
    refine hX _ hqd _ (hY _ hqd _ (hX _ hqm _ (hY _ hqm _ ?_)))
    refine ct_great (a := one) (b := X (q / m)) rfl (Or.inl rfl) (by omega) (by omega) (ct_great (a := Nat.gcd one (X (q / m))) (b := Y (q / m)) rfl (Or.inl rfl) (by omega) (by omega) ?_)
    refine ct_great (a := both) (b := ct_ad (X (q / m) * Y (q % m)) (Y (q / m) * X (q % m))) rfl ?_ (by omega) (by omega) (nm_r (nI_1 q) (ih (q + 1) _ _ (by omega) g2 g3 h))
    rw [pk_mul, pk_mul]
    exact ct_ad_sub _ _
theorem ct_cyclic {post : Int32 → Prop} {u : St2} {X Y : Nat → Nat} {W : List Nat} {R : List (List Nat)} {ff t : Nat} {L : List Nat} (hO : ct_O W R ff L u) (hm1 : 1 ≤ R.length) (ht1 : 1 ≤ t) (ht : t ≤ 1000) (hXb : ∀ k, X k ≤ 8) (hYb : ∀ k, Y k ≤ 8)
    (hX : ∀ k, k < R.length → ∀ ψ : Int32 → Prop, ψ (nI (X k)) → wpX_excess ψ u (nI k) (nI 0)) (hY : ∀ k, k < R.length → ∀ ψ : Int32 → Prop, ψ (nI (Y k)) → wpX_excess ψ u (nI k) (nI 2))
    (H : post (nI (ct_cyv (ct_cy X Y R.length (R.length * R.length) 0 0 0) t))) : wpX_cyclic post u (nI t) := by
  obtain ⟨f0, f1, f2, f3, f4, f5, a1, a2, a3, a4, a5, a6, a7, a8, a9, a10, a11, a12, a13⟩ := u
  have e1 : f1 = nI R.length := hO.2.1.1
  have hm : R.length ≤ 4 := hO.2.1.2.1
  exact pk_lt t 1 (fun z => absurd z (by omega)) (fun _ => pk_le t 1000 (fun _ => ⟨_, ct_cy_walk hm1 hm ht e1 hXb hYb hX hY (R.length * R.length) 0 0 0 (by omega) (by omega) (by omega) H⟩) (fun z => absurd z (by omega)))
theorem ct_both_walk {post : Int32 → Prop} {x y : Nat} (hx : 0 < x) (hx' : x < 2 ^ 31) (hy' : y < 2 ^ 31) (H : post (nI (Nat.gcd x y))) :
    ∀ (f a : Nat), Nat.gcd x y ≤ a → a < f → a < 2 ^ 31 → wL_both_2 post (nI x) (nI y) f (nI a) := by
  have hg : 0 < Nat.gcd x y := Nat.gcd_pos_of_pos_left y hx
  intro f
  induction f with
  | zero => intro a _ h; omega
  | succ f ih =>
    intro a h1 h2 h3
    have ha : 0 < a := by omega
    have hne : ¬ nI a = 0 := nI_ne0 ha h3
    have next : a ≠ Nat.gcd x y → ∀ z : Int32, z = nI a + (-1) → wL_both_2 post (nI x) (nI y) f z := by
      intro e
      obtain ⟨b, rfl⟩ : ∃ b, a = b + 1 := ⟨a - 1, by omega⟩
      exact nm_r (pk_m1 b) (ih b (by omega) (by omega) (by omega))
    have d1 := Nat.mod_lt x ha
    have d2 := Nat.mod_lt y ha
    refine ⟨hne, pk_eq (x % a) 0 (fun z => ⟨hne, pk_eq (y % a) 0 (fun z' => ?_) (fun z' => next (fun e => z' ?_)) (pk_rem hy' ha h3)⟩) (fun z => next (fun e => z ?_)) (pk_rem hx' ha h3)⟩
    · have hd : a ∣ Nat.gcd x y := Nat.dvd_gcd (Nat.dvd_of_mod_eq_zero z) (Nat.dvd_of_mod_eq_zero z')
      have e : a = Nat.gcd x y := Nat.le_antisymm (Nat.le_of_dvd hg hd) h1
      rw [e]
      exact H
    · rw [e]; exact Nat.mod_eq_zero_of_dvd (Nat.gcd_dvd_right x y)
    · rw [e]; exact Nat.mod_eq_zero_of_dvd (Nat.gcd_dvd_left x y)
theorem ct_both {post : Int32 → Prop} {u : St0} {x y : Nat} (hx : 0 < x) (hx' : x < 2 ^ 31) (hy' : y < 2 ^ 31) (H : post (nI (Nat.gcd x y))) : wpL_both post u (nI x) (nI y) :=
  ⟨_, ct_both_walk hx hx' hy' H (x + 1) x (Nat.gcd_le_left y hx) (by omega) hx'⟩
end
section
/-! What the checks say, in words for the law. -/
theorem ct_is_eq {o : Option Nat} {n : Nat} (h : ct_is o n = true) : o = some n := by
  cases o with
  | none => exact absurd h Bool.false_ne_true
  | some m => rw [Nat.eq_of_beq_eq_true (show Nat.beq m n = true from h)]
theorem ct_and {a b : Bool} (h : (a && b) = true) : a = true ∧ b = true := by
  cases a with
  | false => exact absurd h Bool.false_ne_true
  | true => exact ⟨rfl, h⟩
theorem ct_t01 {P : Nat → Prop} (h0 : P 0) (h1 : P 1) {t : Nat} (ht : t < 2) : P t := by
  rcases Nat.lt_or_ge t 1 with z | z
  · have e : t = 0 := by omega
    rw [e]; exact h0
  · have e : t = 1 := by omega
    rw [e]; exact h1
theorem ct_f1 {t n : Nat} (ht : t < 2) (h1 : 1 ≤ n) (h5 : n ≤ 5) : ∃ F, ct_find [ct_com t] n = some F ∧ F.length = ct_sg n n ∧ ct_cnt ct_tK n F 0 = some (ct_sg n n) ∧ ct_cnt ct_tE n F 0 = some (ct_sg n n) := by
  have h : ct_P1 t n = true := ct_t01 (P := fun t => ct_P1 t n = true) (ct_upto_at ct_all1_0 n h1 h5) (ct_upto_at ct_all1_1 n h1 h5) ht
  unfold ct_P1 at h
  cases hf : ct_find [ct_com t] n with
  | none => rw [hf] at h; exact absurd h Bool.false_ne_true
  | some F =>
    rw [hf] at h
    have h := ct_and h
    have h' := ct_and h.1
    exact ⟨F, rfl, Nat.eq_of_beq_eq_true h'.1, ct_is_eq h'.2, ct_is_eq h.2⟩
theorem ct_f2 {t x y n : Nat} (ht : t < 2) (hx : 1 ≤ x) (hx6 : x ≤ 6) (hy : 1 ≤ y) (hy6 : y ≤ 6) (h1 : 1 ≤ n) (h5 : n ≤ 5) :
    ∃ F, ct_find [ct_com t, ct_rp 0 x, ct_rp 2 y] n = some F ∧ F.length = ct_du n x y n ∧ ct_cnt ct_tE n F 0 = some F.length ∧ ct_cnt ct_tK n F 0 = some F.length ∧ ct_fx (ct_rp 2 y) F 0 = some F.length ∧ ct_pes n x F = true := by
  have h : ct_P2 t x y n = true := ct_t01 (P := fun t => ct_P2 t x y n = true) (ct_upto_at (ct_upto_at (ct_upto_at ct_all2_0 x hx hx6) y hy hy6) n h1 h5) (ct_upto_at (ct_upto_at (ct_upto_at ct_all2_1 x hx hx6) y hy hy6) n h1 h5) ht
  unfold ct_P2 at h
  cases hf : ct_find [ct_com t, ct_rp 0 x, ct_rp 2 y] n with
  | none => rw [hf] at h; exact absurd h Bool.false_ne_true
  | some F =>
    rw [hf] at h
    have k1 := ct_and h
    have k2 := ct_and k1.1
    have k3 := ct_and k2.1
    have k4 := ct_and k3.1
    exact ⟨F, rfl, Nat.eq_of_beq_eq_true k4.1, ct_is_eq k4.2, ct_is_eq k3.2, ct_is_eq k2.2, k1.2⟩
theorem ct_f3 {x y n : Nat} (hx : 1 ≤ x) (hx6 : x ≤ 6) (hy : 1 ≤ y) (hy6 : y ≤ 6) (h1 : 1 ≤ n) (h5 : n ≤ 5) :
    ∃ F e k, ct_find [ct_rp 0 x, ct_rp 2 y] n = some F ∧ ct_du n x y n ≤ F.length ∧ F.length ≤ 500 ∧ ct_cnt ct_tE n F 0 = some e ∧ ct_cnt ct_tK n F 0 = some k ∧ e ≤ k := by
  have h : ct_P3 x y n = true := ct_upto_at (ct_upto_at (ct_upto_at ct_all3 x hx hx6) y hy hy6) n h1 h5
  unfold ct_P3 at h
  cases hf : ct_find [ct_rp 0 x, ct_rp 2 y] n with
  | none => rw [hf] at h; exact absurd h Bool.false_ne_true
  | some F =>
    rw [hf] at h
    have k1 := ct_and h
    have k2 := ct_and k1.1
    have k3 := k1.2
    cases he : ct_cnt ct_tE n F 0 with
    | none => rw [he] at k3; exact absurd k3 Bool.false_ne_true
    | some e =>
      rw [he] at k3
      cases hk : ct_cnt ct_tK n F 0 with
      | none => rw [hk] at k3; exact absurd k3 Bool.false_ne_true
      | some k =>
        rw [hk] at k3
        exact ⟨F, e, k, rfl, Nat.le_of_ble_eq_true k2.1, Nat.le_of_ble_eq_true k2.2, he, hk, Nat.le_of_ble_eq_true k3⟩
theorem ct_cnt_le {t : Nat → Bool} {n v : Nat} : ∀ (cs : List Nat) (s : Nat), ct_cnt t n cs s = some v → v ≤ s + cs.length := by
  intro cs
  induction cs with
  | nil =>
    intro s h
    have e : s = v := Option.some.inj h
    omega
  | cons c cs ih =>
    intro s h
    rw [ct_cnt] at h
    rw [List.length_cons]
    cases hb : ct_ev t c n n 0 true with
    | none => rw [hb] at h; exact absurd h.symm (Option.some_ne_none v)
    | some b =>
      rw [hb] at h
      cases b with
      | true => have := ih (s + 1) h; omega
      | false => have := ih s h; omega
theorem ct_pes_c {s x c : Nat} {cs : List Nat} (h : ct_pes s x (c :: cs) = true) : 1 ≤ ct_pe c [0] 6 1 (ct_wd c [0] 0) ∧ s % ct_pe c [0] 6 1 (ct_wd c [0] 0) = 0 ∧ x % ct_pe c [0] 6 1 (ct_wd c [0] 0) = 0 ∧ ct_pes s x cs = true := by
  rw [ct_pes, ct_fc_eq] at h
  generalize ct_pe c [0] 6 1 (ct_wd c [0] 0) = p at h ⊢
  rcases Nat.lt_or_ge p 1 with g | g
  · rw [ct_bf g] at h
    exact absurd h Bool.false_ne_true
  · rw [ct_bt g, cond_true] at h
    by_cases e : s % p = 0
    · rw [ct_et e, cond_true] at h
      by_cases e' : x % p = 0
      · rw [ct_et e', cond_true] at h
        exact ⟨g, e, e', h⟩
      · rw [ct_ef e'] at h
        exact absurd h Bool.false_ne_true
    · rw [ct_ef e] at h
      exact absurd h Bool.false_ne_true
theorem ct_rp_len (l : Nat) : ∀ n : Nat, (ct_rp l n).length = n := by
  intro n
  induction n with
  | zero => rfl
  | succ n ih => rw [ct_rp, List.length_cons, ih]
theorem ct_ct_rp (l m : Nat) : ∀ n : Nat, ct_ct l (ct_rp m n) = if m = l then n else 0 := by
  intro n
  induction n with
  | zero => rw [ct_rp, ct_ct]; split <;> rfl
  | succ n ih =>
    rw [ct_rp, ct_ct, ih]
    by_cases e : m = l
    · rw [if_pos e, if_pos e, if_pos e]; omega
    · rw [if_neg e, if_neg e, if_neg e]
def ct_X (x k : Nat) : Nat := bif Nat.beq k 1 then x else 0
def ct_Y (y k : Nat) : Nat := bif Nat.beq k 2 then y else 0
theorem ct_cy_all : ct_upto (fun x => ct_upto (fun y => ct_upto (fun t => Nat.beq (ct_cyv (ct_cy (ct_X x) (ct_Y y) 3 9 0 0 0) t) (Nat.gcd t x * Nat.gcd t y)) 64) 6) 6 = true := by decide +kernel
theorem ct_cy3 {x y t : Nat} (hx : 1 ≤ x) (hx6 : x ≤ 6) (hy : 1 ≤ y) (hy6 : y ≤ 6) (h1 : 1 ≤ t) (h5 : t ≤ 64) : ct_cyv (ct_cy (ct_X x) (ct_Y y) 3 9 0 0 0) t = Nat.gcd t x * Nat.gcd t y :=
  Nat.eq_of_beq_eq_true (ct_upto_at (ct_upto_at (ct_upto_at ct_cy_all x hx hx6) y hy hy6) t h1 h5)
theorem ct_cy1 (t : Nat) : ct_cyv (ct_cy (fun _ => 0) (fun _ => 0) 1 1 0 0 0) t = t * t := by
  show Nat.gcd (Nat.gcd (Nat.gcd 0 0) 0) t * Nat.gcd (if 0 < Nat.gcd (Nat.gcd 0 0) 0 then _ else 0) t = t * t
  rw [Nat.gcd_zero_left, Nat.gcd_zero_left, if_neg (by omega), Nat.gcd_zero_left]
theorem ct_com_ct {t : Nat} (ht : t < 2) : ct_ct 0 (ct_com t) = 0 + ct_ct 1 (ct_com t) ∧ ct_ct 2 (ct_com t) = 0 + ct_ct 3 (ct_com t) :=
  ct_t01 (P := fun t => ct_ct 0 (ct_com t) = 0 + ct_ct 1 (ct_com t) ∧ ct_ct 2 (ct_com t) = 0 + ct_ct 3 (ct_com t)) (by decide) (by decide) ht
theorem ct_cyclic1 {post : Int32 → Prop} {u : St2} {W : List Nat} {ff t m : Nat} {L : List Nat} (hO : ct_O W [ct_com t] ff L u) (ht : t < 2) (h1 : 1 ≤ m) (h64 : m ≤ 64) (H : post (nI (m * m))) : wpX_cyclic post u (nI m) := by
  refine ct_cyclic (X := fun _ => 0) (Y := fun _ => 0) hO (Nat.succ_le_succ (Nat.zero_le _)) h1 (by omega) (fun _ => by omega) (fun _ => by omega) (fun k hk ψ hψ => ?_) (fun k hk ψ hψ => ?_) ?_
  · have e : k = 0 := by have : k < 1 := hk; omega
    subst e
    exact ct_excess (pre := []) hO rfl (by omega) (ct_com_ct ht).1 hψ
  · have e : k = 0 := by have : k < 1 := hk; omega
    subst e
    exact ct_excess (pre := []) hO rfl (by omega) (ct_com_ct ht).2 hψ
  · have e := ct_cy1 m
    rw [← e] at H
    exact H
theorem ct_cyclic3 {post : Int32 → Prop} {u : St2} {W : List Nat} {ff t m x y : Nat} {L : List Nat} (hO : ct_O W [ct_com t, ct_rp 0 x, ct_rp 2 y] ff L u) (ht : t < 2) (hx : 1 ≤ x) (hx6 : x ≤ 6) (hy : 1 ≤ y) (hy6 : y ≤ 6) (h1 : 1 ≤ m) (h64 : m ≤ 64)
    (H : post (nI (Nat.gcd m x * Nat.gcd m y))) : wpX_cyclic post u (nI m) := by
  refine ct_cyclic (X := ct_X x) (Y := ct_Y y) hO (Nat.succ_le_succ (Nat.zero_le _)) h1 (by omega) (fun k => ?_) (fun k => ?_) (fun k hk ψ hψ => ?_) (fun k hk ψ hψ => ?_) ?_
  · unfold ct_X
    cases Nat.beq k 1 with
    | true => exact (show x ≤ 8 by omega)
    | false => exact Nat.zero_le 8
  · unfold ct_Y
    cases Nat.beq k 2 with
    | true => exact (show y ≤ 8 by omega)
    | false => exact Nat.zero_le 8
  · have hk3 : k < 3 := hk
    rcases (by omega : k = 0 ∨ k = 1 ∨ k = 2) with e | e | e
    · subst e
      exact ct_excess (pre := []) hO rfl (by omega) (ct_com_ct ht).1 hψ
    · subst e
      exact ct_excess (pre := [ct_com t]) (r := ct_rp 0 x) (e := x) hO rfl (by omega) (by rw [ct_ct_rp, ct_ct_rp]; rfl) hψ
    · subst e
      exact ct_excess (pre := [ct_com t, ct_rp 0 x]) (r := ct_rp 2 y) (e := 0) hO rfl (by omega) (by rw [ct_ct_rp, ct_ct_rp]; rfl) hψ
  · have hk3 : k < 3 := hk
    rcases (by omega : k = 0 ∨ k = 1 ∨ k = 2) with e | e | e
    · subst e
      exact ct_excess (pre := []) hO rfl (by omega) (ct_com_ct ht).2 hψ
    · subst e
      exact ct_excess (pre := [ct_com t]) (r := ct_rp 0 x) (e := 0) hO rfl (by omega) (by rw [ct_ct_rp, ct_ct_rp]; rfl) hψ
    · subst e
      exact ct_excess (pre := [ct_com t, ct_rp 0 x]) (r := ct_rp 2 y) (e := y) hO rfl (by omega) (by rw [ct_ct_rp, ct_ct_rp]; rfl) hψ
  · have e := ct_cy3 hx hx6 hy hy6 h1 h64
    rw [← e] at H
    exact H
end
section
/-! The law. -/
theorem ct_l440 {post : Int32 → St0 → Prop} {mc ms kc ks t x y n : Nat} {G F : List Nat} {e k : Nat} (hp : post 1 ()) (h1 : 1 ≤ n) (h5 : n ≤ 5) (hx6 : x ≤ 6)
    (hG : ct_find [ct_com t, ct_rp 0 x, ct_rp 2 y] n = some G) (hF : ct_find [ct_rp 0 x, ct_rp 2 y] n = some F) (hGF : G.length ≤ F.length) (hF5 : F.length ≤ 500) (he : ct_cnt ct_tE n F 0 = some e) (hk : ct_cnt ct_tK n F 0 = some k) (hek : e ≤ k) :
    ∀ (cs pre : List Nat) (ff : Nat) (L : List Nat) (u : St2), G = pre ++ cs → ct_pes n x cs = true → ct_O [0] [ct_com t, ct_rp 0 x, ct_rp 2 y] ff L u →
      match u with | (f0, f1, f2, f3, f4, f5, a1, a2, a3, a4, a5, a6, a7, a8, a9, a10, a11, a12, a13) => wL_lawOf_440 post mc ms (nI n) (nI x) (nI G.length) kc ks (cs.length + 1) (nI pre.length) f0 f1 f2 f3 f4 f5 a1 a2 a3 a4 a5 a6 a7 a8 a9 a10 a11 a12 a13 := by
  have hkb := ct_cnt_le F 0 hk
  intro cs
  induction cs with
  | nil =>
    intro pre ff L u hL hs hO
    rw [List.append_nil] at hL
    subst hL
    obtain ⟨f0, f1, f2, f3, f4, f5, a1, a2, a3, a4, a5, a6, a7, a8, a9, a10, a11, a12, a13⟩ := u
    refine pk_le G.length G.length (fun _ => ?_) (fun z => absurd z (by omega))
    refine ct_drop hO (fun u' h' => ?_)
    obtain ⟨f0x1, f1x1, f2x1, f3x1, f4x1, f5x1, a1x1, a2x1, a3x1, a4x1, a5x1, a6x1, a7x1, a8x1, a9x1, a10x1, a11x1, a12x1, a13x1⟩ := u'
    refine br_t rfl ?_
    refine ct_tables h' h1 h5 hF (fun u' h' => ?_)
    obtain ⟨f0x2, f1x2, f2x2, f3x2, f4x2, f5x2, a1x2, a2x2, a3x2, a4x2, a5x2, a6x2, a7x2, a8x2, a9x2, a10x2, a11x2, a12x2, a13x2⟩ := u'
    refine pk_lt F.length G.length (fun z => absurd z (by omega)) (fun _ => ?_)
    refine ct_even h' h1 h5 hF he (fun u' h' => ?_)
    obtain ⟨f0x3, f1x3, f2x3, f3x3, f4x3, f5x3, a1x3, a2x3, a3x3, a4x3, a5x3, a6x3, a7x3, a8x3, a9x3, a10x3, a11x3, a12x3, a13x3⟩ := u'
    refine ct_kinds h' h1 h5 hF hk (fun u' h' => ?_)
    obtain ⟨f0x4, f1x4, f2x4, f3x4, f4x4, f5x4, a1x4, a2x4, a3x4, a4x4, a5x4, a6x4, a7x4, a8x4, a9x4, a10x4, a11x4, a12x4, a13x4⟩ := u'
    refine pk_lt k e (fun z => absurd z (by omega)) (fun _ => ?_)
    refine ct_period_none h' h1 h5 hF (fun u' => ?_)
    obtain ⟨f0x5, f1x5, f2x5, f3x5, f4x5, f5x5, a1x5, a2x5, a3x5, a4x5, a5x5, a6x5, a7x5, a8x5, a9x5, a10x5, a11x5, a12x5, a13x5⟩ := u'
    exact br_t rfl hp
  | cons c cs ih =>
    intro pre ff L u hL hs hO
    obtain ⟨v1, v2, v3, hs'⟩ := ct_pes_c hs
    have hlen := congrArg List.length hL
    rw [List.length_append, List.length_cons] at hlen
    obtain ⟨f0, f1, f2, f3, f4, f5, a1, a2, a3, a4, a5, a6, a7, a8, a9, a10, a11, a12, a13⟩ := u
    refine pk_le G.length pre.length (fun z => absurd z (by omega)) (fun _ => ?_)
    refine ct_period hO h1 h5 hG hL v1 rfl (fun u' h' => ?_)
    have t := ih (pre ++ [c]) n G u' (by rw [hL, List.append_assoc]; rfl) hs' h'
    rw [List.length_append] at t
    obtain ⟨f0x1, f1x1, f2x1, f3x1, f4x1, f5x1, a1x1, a2x1, a3x1, a4x1, a5x1, a6x1, a7x1, a8x1, a9x1, a10x1, a11x1, a12x1, a13x1⟩ := u'
    generalize ct_pe c [0] 6 1 (ct_wd c [0] 0) = v at v1 v2 v3 ⊢
    have hv : v ≤ n := Nat.le_of_dvd h1 (Nat.dvd_of_mod_eq_zero v2)
    have hne : ¬ nI v = 0 := nI_ne0 v1 (by omega)
    exact pk_lt v 1 (fun z => absurd z (by omega)) (fun _ => ⟨hne, pk_eq (n % v) 0 (fun _ => ⟨hne, pk_eq (x % v) 0 (fun _ => nm_r (nI_1 _) t) (fun z => absurd v3 z) (pk_rem (by omega) v1 (by omega)) rfl (by omega) (by omega)⟩) (fun z => absurd v2 z) (pk_rem (by omega) v1 (by omega)) rfl (by omega) (by omega)⟩)
theorem ct_l294 {post : Int32 → St0 → Prop} {mc ms kc ks : Nat} {J : Int32 → Int32 → Prop} {f0 f1 f2 f3 f4 f5 : Int32} {a1 a2 a3 a4 a5 a6 a7 : Nat → Int32} {a8 : Nat → Int64} {a9 a10 a11 a12 a13 : Nat → Int32} {n x y d b : Nat} (h5 : n ≤ 5) (hd1 : 1 ≤ d) (hd : d ≤ n) (hx6 : x ≤ 6) (hy6 : y ≤ 6) (hnd : n % d = 0)
    (HJ : J (nI (b + ct_dt x y d (n / d) d)) (nI (d + 1))) :
    ∀ (f j : Nat), j + f = d → wL_lawOf_294 post mc ms J (nI n) (nI x) (nI y) (nI d) (nI (n / d)) kc ks f0 f1 f2 f3 f4 f5 a1 a2 a3 a4 a5 a6 a7 a8 a9 a10 a11 a12 a13 (f + 1) (nI (b + ct_dt x y d (n / d) j)) (nI j) := by
  have he1 : 0 < n / d := Nat.div_pos hd hd1
  have he5 : n / d ≤ 5 := Nat.le_trans (Nat.div_le_self _ _) h5
  have hdne : ¬ nI d = 0 := nI_ne0 hd1 (by omega)
  have hene : ¬ nI (n / d) = 0 := nI_ne0 he1 (by omega)
  intro f
  induction f with
  | zero =>
    intro j hj
    have e : j = d := by omega
    subst e
    exact pk_le j j (fun _ => nm_r (nI_1 j) HJ) (fun z => absurd z (by omega))
  | succ f ih =>
    intro j hj
    have t := ih (j + 1) (by omega)
    rw [ct_dt] at t
    have m1 := Nat.mod_lt x hd1
    have m2 := Nat.mod_lt y he1
    have m3 := Nat.mod_lt (j * (y / (n / d))) hd1
    have hq : y / (n / d) ≤ 6 := Nat.le_trans (Nat.div_le_self _ _) hy6
    have hjq : j * (y / (n / d)) ≤ 5 * 6 := Nat.mul_le_mul (by omega) hq
    have z0 : ∀ q : Nat, nI q + 0 = nI (q + 0) := fun q => nI_add q 0
    refine pk_le d j (fun z => absurd z (by omega)) (fun _ => ⟨hdne, br_t (by rw [pk_rem (by omega) hd1 (by omega), hnd]; rfl) ⟨hdne, pk_eq (x % d) 0 (fun e1 => ⟨hene, pk_eq (y % (n / d)) 0 (fun e2 => ⟨hene, hdne, ?_⟩) (fun e2 => ?_) (pk_rem (by omega) he1 (by omega)) rfl (by omega) (by omega)⟩) (fun e1 => ?_) (pk_rem (by omega) hd1 (by omega)) rfl (by omega) (by omega)⟩⟩)
    · rw [pk_div (by omega) he1 (by omega), pk_mul]
      rw [ct_et e1, ct_et e2, cond_true, cond_true] at t
      refine pk_eq (j * (y / (n / d)) % d) 0 (fun e3 => ?_) (fun e3 => ?_) (pk_rem (by omega) hd1 (by omega)) rfl (by omega) (by omega)
      · rw [ct_et e3, cond_true] at t
        exact nm_r (nI_1 _) (nm_r (nI_1 j) t)
      · rw [ct_ef e3, cond_false] at t
        exact nm_r (z0 _) (nm_r (nI_1 j) t)
    · rw [ct_et e1, ct_ef e2, cond_true, cond_false] at t
      exact nm_r (z0 _) (nm_r (nI_1 j) t)
    · rw [ct_ef e1, cond_false] at t
      exact nm_r (z0 _) (nm_r (nI_1 j) t)
theorem ct_l294n {post : Int32 → St0 → Prop} {mc ms kc ks : Nat} {J : Int32 → Int32 → Prop} {f0 f1 f2 f3 f4 f5 : Int32} {a1 a2 a3 a4 a5 a6 a7 : Nat → Int32} {a8 : Nat → Int64} {a9 a10 a11 a12 a13 : Nat → Int32} {n x y d : Nat} {b e : Int32} (h5 : n ≤ 5) (hd1 : 1 ≤ d) (hd : d ≤ n) (hnd : ¬ n % d = 0)
    (HJ : J b (nI (d + 1))) : wL_lawOf_294 post mc ms J (nI n) (nI x) (nI y) (nI d) e kc ks f0 f1 f2 f3 f4 f5 a1 a2 a3 a4 a5 a6 a7 a8 a9 a10 a11 a12 a13 1 b 0 := by
  have hdne : ¬ nI d = 0 := nI_ne0 hd1 (by omega)
  have m1 := Nat.mod_lt n hd1
  exact pk_le d 0 (fun z => absurd z (by omega)) (fun _ => ⟨hdne, pk_eq (n % d) 0 (fun z => absurd z hnd) (fun _ => nm_r (nI_1 d) HJ) (pk_rem (by omega) hd1 (by omega)) rfl (by omega) (by omega)⟩)
theorem ct_l277 {post : Int32 → St0 → Prop} {mc ms kc ks t x y n : Nat} {f0 f1 f2 f3 f4 f5 : Int32} {a1 a2 a3 a4 a5 a6 a7 : Nat → Int32} {a8 : Nat → Int64} {a9 a10 a11 a12 a13 : Nat → Int32} {ff : Nat} {L : List Nat} (hp : post 1 ()) (ht : t < 2) (h1 : 1 ≤ n) (h5 : n ≤ 5) (hx : 1 ≤ x) (hx6 : x ≤ 6) (hy : 1 ≤ y) (hy6 : y ≤ 6)
    (hO : ct_O (ct_rp 2 y) [ct_com t, ct_rp 0 x, ct_rp 2 y] ff L (f0, f1, f2, f3, f4, f5, a1, a2, a3, a4, a5, a6, a7, a8, a9, a10, a11, a12, a13)) :
    ∀ (k m : Nat), m + k = n → wL_lawOf_277 post mc ms (nI n) (nI x) (nI y) kc ks f0 f1 f2 f3 f4 f5 a1 a2 a3 a4 a5 a6 a7 a8 a9 a10 a11 a12 a13 (k + 1) (nI (ct_du n x y m)) (nI (m + 1)) := by
  intro k
  induction k with
  | zero =>
    intro m hm
    have e : m = n := hm
    subst e
    obtain ⟨G, hG, hGl, hGe, hGk, hGx, hGp⟩ := ct_f2 ht hx hx6 hy hy6 h1 h5
    obtain ⟨F, ee, kk, hF, hFl, hF5, hFe, hFk, hek⟩ := ct_f3 hx hx6 hy hy6 h1 h5
    refine pk_lt m (m + 1) (fun _ => ?_) (fun z => absurd z (by omega))
    refine ct_tables hO h1 h5 hG (fun u' h' => ?_)
    obtain ⟨f0x1, f1x1, f2x1, f3x1, f4x1, f5x1, a1x1, a2x1, a3x1, a4x1, a5x1, a6x1, a7x1, a8x1, a9x1, a10x1, a11x1, a12x1, a13x1⟩ := u'
    refine br_t (by rw [hGl]) ?_
    refine ct_even h' h1 h5 hG hGe (fun u' h' => ?_)
    obtain ⟨f0x2, f1x2, f2x2, f3x2, f4x2, f5x2, a1x2, a2x2, a3x2, a4x2, a5x2, a6x2, a7x2, a8x2, a9x2, a10x2, a11x2, a12x2, a13x2⟩ := u'
    refine br_t rfl ?_
    refine ct_kinds h' h1 h5 hG hGk (fun u' h' => ?_)
    obtain ⟨f0x3, f1x3, f2x3, f3x3, f4x3, f5x3, a1x3, a2x3, a3x3, a4x3, a5x3, a6x3, a7x3, a8x3, a9x3, a10x3, a11x3, a12x3, a13x3⟩ := u'
    refine br_t rfl ?_
    refine ct_fixing h' h1 h5 hG hGx (fun u' h' => ?_)
    obtain ⟨f0x4, f1x4, f2x4, f3x4, f4x4, f5x4, a1x4, a2x4, a3x4, a4x4, a5x4, a6x4, a7x4, a8x4, a9x4, a10x4, a11x4, a12x4, a13x4⟩ := u'
    refine br_t rfl ?_
    refine ct_still h' (fun i i1 i5 => ?_) (fun u' L' h' => ?_)
    · obtain ⟨G', hG', _, _, _, hGx', _⟩ := ct_f2 ht hx hx6 hy hy6 i1 i5
      exact ⟨G', hG', hGx'⟩
    obtain ⟨f0x5, f1x5, f2x5, f3x5, f4x5, f5x5, a1x5, a2x5, a3x5, a4x5, a5x5, a6x5, a7x5, a8x5, a9x5, a10x5, a11x5, a12x5, a13x5⟩ := u'
    refine br_t rfl ?_
    refine ct_clear h' (fun u' h' => ?_)
    obtain ⟨f0x6, f1x6, f2x6, f3x6, f4x6, f5x6, a1x6, a2x6, a3x6, a4x6, a5x6, a6x6, a7x6, a8x6, a9x6, a10x6, a11x6, a12x6, a13x6⟩ := u'
    refine ct_lput (l := 0) (m := 1) h' (by omega) (by decide) (fun u' h' => ?_)
    have q := ct_l440 (mc := mc) (ms := ms) (kc := kc) (ks := ks) hp h1 h5 hx6 hG hF (by omega) hF5 hFe hFk hek G [] 5 L' u' rfl hGp h'
    obtain ⟨f0x7, f1x7, f2x7, f3x7, f4x7, f5x7, a1x7, a2x7, a3x7, a4x7, a5x7, a6x7, a7x7, a8x7, a9x7, a10x7, a11x7, a12x7, a13x7⟩ := u'
    exact ⟨_, q⟩
  | succ k ih =>
    intro m hm
    have q := ih (m + 1) (by omega)
    rw [ct_du] at q
    refine pk_lt n (m + 1) (fun z => absurd z (by omega)) (fun _ => ⟨nI_ne0 (by omega) (by omega), nm_r (pk_div (by omega) (by omega) (by omega)) ?_⟩)
    by_cases e : n % (m + 1) = 0
    · rw [ct_et e, cond_true] at q
      exact ⟨_, ct_l294 h5 (by omega) (by omega) hx6 hy6 e q (m + 1) 0 (by omega)⟩
    · rw [ct_ef e, cond_false, Nat.add_zero] at q
      exact ⟨_, ct_l294n h5 (by omega) (by omega) e q⟩
theorem ct_l113 {post : Int32 → St0 → Prop} {mc ms kc ks t x y n tm : Nat} {f0 f1 f2 f3 f4 f5 : Int32} {a1 a2 a3 a4 a5 a6 a7 : Nat → Int32} {a8 : Nat → Int64} {a9 a10 a11 a12 a13 : Nat → Int32} {ff : Nat} {L : List Nat} (hp : post 1 ()) (ht : t < 2) (h1 : 1 ≤ n) (h5 : n ≤ 5) (hx : 1 ≤ x) (hx6 : x ≤ 6) (hy : 1 ≤ y) (hy6 : y ≤ 6) (ht1 : 1 ≤ tm) (ht64 : tm ≤ 64)
    (hO : ct_O [] [ct_com t] ff L (f0, f1, f2, f3, f4, f5, a1, a2, a3, a4, a5, a6, a7, a8, a9, a10, a11, a12, a13)) :
    ∀ (k m : Nat), m + k = n → wL_lawOf_113 post mc ms (nI n) (nI x) (nI y) (nI tm) kc ks f0 f1 f2 f3 f4 f5 a1 a2 a3 a4 a5 a6 a7 a8 a9 a10 a11 a12 a13 (k + 1) (nI (ct_sg n m)) (nI (m + 1)) := by
  intro k
  induction k with
  | zero =>
    intro m hm
    have e : m = n := hm
    subst e
    obtain ⟨F, hF, hFl, hFk, hFe⟩ := ct_f1 ht h1 h5
    refine pk_lt m (m + 1) (fun _ => ?_) (fun z => absurd z (by omega))
    refine ct_tables hO h1 h5 hF (fun u' h' => ?_)
    obtain ⟨f0x1, f1x1, f2x1, f3x1, f4x1, f5x1, a1x1, a2x1, a3x1, a4x1, a5x1, a6x1, a7x1, a8x1, a9x1, a10x1, a11x1, a12x1, a13x1⟩ := u'
    refine br_t (by rw [hFl]) ?_
    refine ct_kinds h' h1 h5 hF hFk (fun u' h' => ?_)
    obtain ⟨f0x2, f1x2, f2x2, f3x2, f4x2, f5x2, a1x2, a2x2, a3x2, a4x2, a5x2, a6x2, a7x2, a8x2, a9x2, a10x2, a11x2, a12x2, a13x2⟩ := u'
    refine br_t rfl ?_
    refine ct_even h' h1 h5 hF hFe (fun u' h' => ?_)
    obtain ⟨f0x3, f1x3, f2x3, f3x3, f4x3, f5x3, a1x3, a2x3, a3x3, a4x3, a5x3, a6x3, a7x3, a8x3, a9x3, a10x3, a11x3, a12x3, a13x3⟩ := u'
    refine br_t rfl ?_
    refine ct_cyclic1 h' ht ht1 ht64 (br_t (pk_mul tm tm).symm ?_)
    refine ct_lput (l := 0) (m := x) h' (by omega) (by show 0 + x ≤ 8; omega) (fun u' h' => ?_)
    obtain ⟨f0x4, f1x4, f2x4, f3x4, f4x4, f5x4, a1x4, a2x4, a3x4, a4x4, a5x4, a6x4, a7x4, a8x4, a9x4, a10x4, a11x4, a12x4, a13x4⟩ := u'
    refine ct_relate h' (by show 1 < 4; omega) (fun u' h' => ?_)
    obtain ⟨f0x5, f1x5, f2x5, f3x5, f4x5, f5x5, a1x5, a2x5, a3x5, a4x5, a5x5, a6x5, a7x5, a8x5, a9x5, a10x5, a11x5, a12x5, a13x5⟩ := u'
    refine br_t rfl ?_
    refine ct_clear h' (fun u' h' => ?_)
    obtain ⟨f0x6, f1x6, f2x6, f3x6, f4x6, f5x6, a1x6, a2x6, a3x6, a4x6, a5x6, a6x6, a7x6, a8x6, a9x6, a10x6, a11x6, a12x6, a13x6⟩ := u'
    refine br_t (by show nI (ct_rp 0 x).length = nI x; rw [ct_rp_len]) ?_
    refine ct_lput (l := 2) (m := y) h' (by omega) (by show 0 + y ≤ 8; omega) (fun u' h' => ?_)
    obtain ⟨f0x7, f1x7, f2x7, f3x7, f4x7, f5x7, a1x7, a2x7, a3x7, a4x7, a5x7, a6x7, a7x7, a8x7, a9x7, a10x7, a11x7, a12x7, a13x7⟩ := u'
    refine ct_relate h' (by show 2 < 4; omega) (fun u' h' => ?_)
    obtain ⟨f0x8, f1x8, f2x8, f3x8, f4x8, f5x8, a1x8, a2x8, a3x8, a4x8, a5x8, a6x8, a7x8, a8x8, a9x8, a10x8, a11x8, a12x8, a13x8⟩ := u'
    refine br_t rfl ?_
    refine ct_cyclic3 (t := t) (x := x) (y := y) h' ht hx hx6 hy hy6 ht1 ht64 ?_
    refine ct_both ht1 (by omega) (by omega) (ct_both ht1 (by omega) (by omega) (br_t (pk_mul _ _).symm ?_))
    exact ⟨_, ct_l277 (t := t) hp ht h1 h5 hx hx6 hy hy6 h' m 0 (by omega)⟩
  | succ k ih =>
    intro m hm
    have q := ih (m + 1) (by omega)
    rw [ct_sg] at q
    have m1 := Nat.mod_lt n (show 0 < m + 1 by omega)
    refine pk_lt n (m + 1) (fun z => absurd z (by omega)) (fun _ => ⟨nI_ne0 (by omega) (by omega), pk_eq (n % (m + 1)) 0 (fun e => ?_) (fun e => ?_) (pk_rem (by omega) (by omega) (by omega)) rfl (by omega) (by omega)⟩)
    · rw [ct_et e, cond_true] at q
      exact nm_r (nI_add _ _) (nm_r (nI_1 _) q)
    · rw [ct_ef e, cond_false] at q
      exact nm_r (nI_add _ 0) (nm_r (nI_1 _) q)
end
section
/-! The top. -/
theorem ct_par (p : Int32) {M : Nat} {N : Int32} (hN : N = nI M) (h0 : 0 < M) (hM : M < 2 ^ 31) : ∃ j, 1 ≤ j ∧ j ≤ M ∧ 1 + ((p &&& 127) - (p &&& 127) / N * N) = nI j := by
  subst hN
  obtain ⟨q, hq, e⟩ := pk_andE p (m := 127) 7 (by decide)
  have hm := Nat.mod_lt q h0
  refine ⟨1 + q % M, by omega, by omega, ?_⟩
  rw [e, pk_rem (by omega) h0 hM]
  exact nI_add 1 _
theorem ct_lawOf {post : Int32 → St0 → Prop} (hp : post 1 ()) (p0 p1 p2 p3 p4 : Int32) : wpL_lawOf post 566 9056 () p0 p1 p2 p3 p4 := by
  obtain ⟨n, h1, h5, en⟩ := ct_par p2 (M := 5) (N := 5) rfl (by omega) (by omega)
  obtain ⟨x, hx, hx6, ex⟩ := ct_par p0 (M := 6) (N := 6) rfl (by omega) (by omega)
  obtain ⟨y, hy, hy6, ey⟩ := ct_par p1 (M := 6) (N := 6) rfl (by omega) (by omega)
  obtain ⟨q, hq, eq⟩ := pk_andE p3 (m := 63) 6 (by decide)
  obtain ⟨t, ht, et⟩ := pk_andE p4 (m := 1) 1 (by decide)
  have e9 : 1 + (p3 &&& 63) = nI (1 + q) := by
    rw [eq]
    exact nI_add 1 q
  have ht2 : t < 2 := ht
  have e1t : 1 - nI t = nI (1 - t) := pk_sub (a := 1) (b := t) (by omega)
  refine ⟨by omega, by omega, 13, 666, by omega, by omega, ?_⟩
  refine ⟨by omega, by omega, by omega, by omega, by omega, by omega, by omega, by omega, by omega, by omega, by omega, by omega, by omega, by omega, by omega, by omega, by omega, by omega, by omega, by omega, by omega, by omega, by omega, by omega, by omega, by omega, ?_⟩
  refine ⟨by decide, nm_r en ⟨by decide, nm_r ex ⟨by decide, nm_r ey (nm_r e9 (nm_r et ?_))⟩⟩⟩
  refine ct_lput (W := []) (R := []) (ff := 0) (L := []) (l := t) (m := 1) ⟨⟨rfl, by decide, trivial⟩, ⟨rfl, by decide, trivial⟩, ⟨rfl, by omega, rfl, by decide, trivial⟩, fun z => absurd rfl z⟩ (by omega) (by decide) (fun u' h' => ?_)
  obtain ⟨f0x1, f1x1, f2x1, f3x1, f4x1, f5x1, a1x1, a2x1, a3x1, a4x1, a5x1, a6x1, a7x1, a8x1, a9x1, a10x1, a11x1, a12x1, a13x1⟩ := u'
  refine ct_lput (l := 2) (m := 1) h' (by omega) (by show 2 ≤ 8; omega) (fun u' h' => ?_)
  obtain ⟨f0x2, f1x2, f2x2, f3x2, f4x2, f5x2, a1x2, a2x2, a3x2, a4x2, a5x2, a6x2, a7x2, a8x2, a9x2, a10x2, a11x2, a12x2, a13x2⟩ := u'
  rw [e1t]
  refine ct_lput (l := 1 - t) (m := 1) h' (by omega) (by show 3 ≤ 8; omega) (fun u' h' => ?_)
  obtain ⟨f0x3, f1x3, f2x3, f3x3, f4x3, f5x3, a1x3, a2x3, a3x3, a4x3, a5x3, a6x3, a7x3, a8x3, a9x3, a10x3, a11x3, a12x3, a13x3⟩ := u'
  refine ct_lput (l := 3) (m := 1) h' (by omega) (by show 4 ≤ 8; omega) (fun u' h' => ?_)
  obtain ⟨f0x4, f1x4, f2x4, f3x4, f4x4, f5x4, a1x4, a2x4, a3x4, a4x4, a5x4, a6x4, a7x4, a8x4, a9x4, a10x4, a11x4, a12x4, a13x4⟩ := u'
  have ew : ((([] ++ ct_rp t 1) ++ ct_rp 2 1) ++ ct_rp (1 - t) 1) ++ ct_rp 3 1 = ct_com t := ct_t01 (P := fun t => ((([] ++ ct_rp t 1) ++ ct_rp 2 1) ++ ct_rp (1 - t) 1) ++ ct_rp 3 1 = ct_com t) rfl rfl ht2
  rw [ew] at h'
  refine ct_relate h' (by show 0 < 4; omega) (fun u' h' => ?_)
  obtain ⟨f0x5, f1x5, f2x5, f3x5, f4x5, f5x5, a1x5, a2x5, a3x5, a4x5, a5x5, a6x5, a7x5, a8x5, a9x5, a10x5, a11x5, a12x5, a13x5⟩ := u'
  refine br_t rfl ?_
  refine ct_clear h' (fun u' h' => ?_)
  obtain ⟨f0x6, f1x6, f2x6, f3x6, f4x6, f5x6, a1x6, a2x6, a3x6, a4x6, a5x6, a6x6, a7x6, a8x6, a9x6, a10x6, a11x6, a12x6, a13x6⟩ := u'
  have el : (ct_com t).length = 4 := ct_t01 (P := fun t => (ct_com t).length = 4) rfl rfl ht2
  refine br_t (by rw [el]; rfl) ?_
  exact ⟨_, ct_l113 (t := t) hp ht2 h1 h5 hx hx6 hy hy6 (by omega) (by omega) h' n 0 (by omega)⟩
theorem ct_cell {post : Int32 → Prop} {L : Nat} {xs : Nat → Int32} {u : St0} {i : Nat} (hL : L ≤ 5) (hi : i < 5) (H : ∀ r, post r) : wpL_cellAt post L xs u (nI i) :=
  pk_le L i (fun _ => H 0) (fun z => ⟨pk_in i L z, H _⟩)
theorem i_vc (xs : Nat → Int32) (L : Nat) (hL : L ≤ 5) : wpL_law (fun r => r = 1) L xs := by
  unfold wpL_law
  refine ct_cell (i := 0) hL (by omega) (fun r1 => ?_)
  refine ct_cell (i := 1) hL (by omega) (fun r2 => ?_)
  refine ct_cell (i := 2) hL (by omega) (fun r3 => ?_)
  refine ct_cell (i := 3) hL (by omega) (fun r4 => ?_)
  refine ct_cell (i := 4) hL (by omega) (fun r5 => ?_)
  exact ⟨566, 9056, by omega, by omega, ct_lawOf rfl r1 r2 r3 r4 r5⟩
end
