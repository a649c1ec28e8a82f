section
/-! the pure picture: letters, meets, the fillings in order, the search's account -/
/-- a letter (or a cell's meet) x allows the digit v: 2 is any, 3 is none -/
def cw_al (x v : Nat) : Bool := x == 2 || x == v
def cw_mt (x y : Nat) : Nat := if x = 2 then y else if y = 2 then x else if x = y then x else 3
/-- the fillings, m cells left, at cell d, number so far p -/
def cw_sl (w : Nat → Nat) : Nat → Nat → Nat → List Nat
  | 0, _, p => [p]
  | m + 1, d, p => (if cw_al (w d) 0 then cw_sl w m (d + 1) (2 * p) else []) ++ (if cw_al (w d) 1 then cw_sl w m (d + 1) (2 * p + 1) else [])
/-- one full grid taken in: (over, what was taken, the last first) -/
def cw_en (st : Nat) (lt : Nat → Bool) (s : Bool × List Nat) (n : Nat) : Bool × List Nat :=
  if s.1 then s else if lt n then (decide (s.2.length + 1 = st), n :: s.2) else (true, s.2)
def cw_num : List Nat → Int32
  | [] => -1
  | n :: _ => nI n
def cw_all : List Nat → Nat
  | [] => 4095
  | n :: l => cw_all l &&& n
def cw_any : List Nat → Nat
  | [] => 0
  | n :: l => cw_any l ||| n
def cw_w4 (a b c d : Nat) : Nat → Nat
  | 0 => a
  | 1 => b
  | 2 => c
  | _ => d
def cw_no (a b c d : Nat) : Bool := a == 3 || b == 3 || c == 3 || d == 3
def cw_f (a : Nat) : Nat := if a = 2 then 2 else 1
def cw_due (a b c d : Nat) : Nat := if cw_no a b c d then 0 else cw_f a * cw_f b * cw_f c * cw_f d
def cw_least (a b c d : Nat) : Nat := a % 2 * 8 + b % 2 * 4 + c % 2 * 2 + d % 2
def cw_L (a b c d : Nat) : List Nat := cw_sl (cw_w4 a b c d) 4 0 0
/-- the search's end -/
def cw_T (a b c d st : Nat) (lt : Nat → Bool) : List Nat := ((cw_L a b c d).foldl (cw_en st lt) (false, [])).2
def cw_tt : Nat → Bool := fun _ => true
/-- what forced answers at bit i -/
def cw_fo (l : List Nat) (i : Nat) : Nat := if cw_all l / 2 ^ i % 2 = 1 then 1 else if cw_any l / 2 ^ i % 2 = 1 then 2 else 0
def cw_c1 (a b c d : Nat) : Bool :=
  let t := cw_T a b c d 4096 cw_tt
  (t.length == cw_due a b c d) && (cw_due a b c d ≤ 16) && ((cw_L a b c d).length == cw_due a b c d) && (cw_least a b c d ≤ 15) && (cw_any t < 4096)
    && (if cw_no a b c d then (cw_L a b c d).isEmpty else (!t.isEmpty) && (cw_fo t 3 == a) && (cw_fo t 2 == b) && (cw_fo t 1 == c) && (cw_fo t 0 == d) && ((cw_T a b c d 4096 (fun n => decide (n < cw_least a b c d + 1))).length == 1) && (cw_T a b c d 1 cw_tt == [cw_least a b c d]) && (1 ≤ cw_due a b c d))
def cw_c2 (a b c d k : Nat) : Bool :=
  let t := cw_T a b c d (k + 1) cw_tt
  if k < cw_due a b c d then (t.length == k + 1) && (match t with | [] => false | n :: _ => decide (cw_least a b c d + k ≤ n) && decide (n < 16)) else decide (t.length ≠ k + 1)
theorem cw_c1_all : ∀ a, a < 4 → ∀ b, b < 4 → ∀ c, c < 4 → ∀ d, d < 4 → cw_c1 a b c d = true := by decide +kernel
theorem cw_c2_all : ∀ a, a < 4 → ∀ b, b < 4 → ∀ c, c < 4 → ∀ d, d < 4 → ∀ k, k < 16 → cw_c2 a b c d k = true := by decide +kernel
theorem cw_fe_big (st : Nat) : ∀ (l : List Nat) (s : Bool × List Nat), s.1 = false → s.2.length + l.length < st → (l.foldl (cw_en st cw_tt) s).2.length = s.2.length + l.length := by
  intro l
  induction l with
  | nil => intro s _ _; rfl
  | cons n l ih =>
    intro s h1 h2
    rw [List.length_cons] at h2
    have e : cw_en st cw_tt s n = (false, n :: s.2) := by
      have : decide (s.2.length + 1 = st) = false := decide_eq_false (by omega)
      simp only [cw_en, h1, cw_tt, this, if_true, Bool.false_eq_true, if_false]
    rw [List.foldl_cons, e, ih (false, n :: s.2) rfl (by show (n :: s.2).length + l.length < st; rw [List.length_cons]; omega)]
    show (n :: s.2).length + l.length = _
    rw [List.length_cons, List.length_cons]
    omega
/-- an ended search stays as it is -/
theorem cw_fe_over (st : Nat) (lt : Nat → Bool) : ∀ (l : List Nat) (s : Bool × List Nat), s.1 = true → l.foldl (cw_en st lt) s = s := by
  intro l
  induction l with
  | nil => intro s _; rfl
  | cons n l ih =>
    intro s h
    rw [List.foldl_cons, show cw_en st lt s n = s from by simp only [cw_en, h, if_true]]
    exact ih s h
theorem cw_al_mt : ∀ x, x < 3 → ∀ y, y < 3 → ∀ v, v < 2 → cw_al (cw_mt x y) v = (cw_al x v && cw_al y v) := by decide +kernel
theorem cw_mt_lt : ∀ x, x < 3 → ∀ y, y < 3 → cw_mt x y < 4 := by decide +kernel
theorem cw_al_01 : ∀ x, x < 3 → cw_al x 0 = false → cw_al x 1 = true := by decide +kernel
/-- the second letter of cell d -/
def cw_i2 (d : Nat) : Nat := 4 + 2 * (d % 2) + d / 2
def cw_wq (q : Nat → Nat) (d : Nat) : Nat := cw_mt (q d) (q (cw_i2 d))
theorem cw_sl_c (w w' : Nat → Nat) : ∀ m d p, (∀ j, d ≤ j → j < d + m → w j = w' j) → cw_sl w m d p = cw_sl w' m d p := by
  intro m
  induction m with
  | zero => intro d p _; rfl
  | succ m ih =>
    intro d p h
    simp only [cw_sl]
    rw [h d (by omega) (by omega), ih (d + 1) (2 * p) (fun j h1 h2 => h j (by omega) (by omega)), ih (d + 1) (2 * p + 1) (fun j h1 h2 => h j (by omega) (by omega))]
theorem cw_L_q (q : Nat → Nat) : cw_sl (cw_wq q) 4 0 0 = cw_L (cw_mt (q 0) (q 4)) (cw_mt (q 1) (q 6)) (cw_mt (q 2) (q 5)) (cw_mt (q 3) (q 7)) := by
  refine cw_sl_c _ _ 4 0 0 (fun j _ hj => ?_)
  have : j = 0 ∨ j = 1 ∨ j = 2 ∨ j = 3 := by omega
  rcases this with rfl | rfl | rfl | rfl <;> rfl
/-- bits of small naturals -/
theorem cw_and (a b : Nat) : nI a &&& nI b = nI (a &&& b) := by
  apply Int32.toBitVec_inj.1
  show BitVec.ofNat 32 a &&& BitVec.ofNat 32 b = BitVec.ofNat 32 (a &&& b)
  apply BitVec.eq_of_getLsbD_eq
  intro i hi
  simp [hi]
theorem cw_or (a b : Nat) : nI a ||| nI b = nI (a ||| b) := by
  apply Int32.toBitVec_inj.1
  show BitVec.ofNat 32 a ||| BitVec.ofNat 32 b = BitVec.ofNat 32 (a ||| b)
  apply BitVec.eq_of_getLsbD_eq
  intro i hi
  simp [hi]
theorem cw_all_lt : ∀ l : List Nat, cw_all l < 4096
  | [] => by decide
  | n :: l => Nat.lt_of_le_of_lt Nat.and_le_left (cw_all_lt l)
theorem cw_any_lt : ∀ l : List Nat, (∀ n, n ∈ l → n < 2 ^ 12) → cw_any l < 2 ^ 12
  | [], _ => by decide
  | n :: l, h => Nat.or_lt_two_pow (cw_any_lt l (fun m hm => h m (List.mem_cons_of_mem _ hm))) (h n List.mem_cons_self)
/-- the number so far: the digits behind cell d -/
def cw_F (a : Nat → Int32) : Nat → Int32
  | 0 => 0
  | d + 1 => cw_F a d * 2 + a d
theorem cw_F_c (a b : Nat → Int32) : ∀ d, (∀ j, j < d → a j = b j) → cw_F a d = cw_F b d := by
  intro d
  induction d with
  | zero => intro _; rfl
  | succ d ih =>
    intro h
    simp only [cw_F]
    rw [ih (fun j hj => h j (by omega)), h d (by omega)]
theorem cw_F_s {a : Nat → Int32} {d p v : Nat} (h : cw_F a d = nI p) (hv : a d = nI v) : cw_F a (d + 1) = nI (2 * p + v) := by
  simp only [cw_F]
  rw [h, hv, show (2 : Int32) = nI 2 from rfl, pk_mul, nI_add, Nat.mul_comm]
theorem cw_b256 : ∀ p, p < 8 → ¬ (((256 : Int32) >>> (nI p &&& 31)) &&& 1) = 1 := by decide +kernel
theorem cw_b1 : ∀ p, p < 8 → 1 ≤ p → ¬ (((1 : Int32) >>> (nI p &&& 31)) &&& 1) = 1 := by decide +kernel
end
section
/-! the state's picture -/
/-- the mask m of a line for the digit v: its two letters are x and y -/
def cw_mk (m : Int32) (x y v : Nat) : Prop := (1 &&& m = if cw_al x v then 1 else 0) ∧ (2 &&& m = if cw_al y v then 2 else 0)
/-- line l holds its two letters -/
def cw_ln (q : Nat → Nat) (l : Nat) (a11 a12 a13 a14 a15 a16 : Nat → Int32) : Prop :=
  a11 l = 1 ∧ a12 l = 2 ∧ a13 l = 0 ∧ cw_mk (a14 l) (q (2 * l)) (q (2 * l + 1)) 0 ∧ cw_mk (a15 l) (q (2 * l)) (q (2 * l + 1)) 1 ∧ a16 (l * 8) = 2 ∧ ∀ p, 1 ≤ p → p < 8 → a16 (l * 8 + p) = 0
/-- the grid: rows, columns and pins of the cells -/
def cw_G (a1 a2 a3 : Nat → Int32) : Prop := ∀ r, r < 2 → ∀ c, c < 2 → a1 (2 * r + c) = nI r ∧ a2 (2 * r + c) = nI c ∧ a3 (2 * r + c) = 2
/-- n lines are set -/
def cw_A (q : Nat → Nat) (n : Nat) (u : St2) : Prop := match u with
  | (fr, fc, fl, fe, fh, fp, fy, fo, fn, fa, fz, a1, a2, a3, a4, a5, a6, a7, a8, a9, a10, a11, a12, a13, a14, a15, a16, a17, a18, a19, a20, a21) => fr = 2 ∧ fc = 2 ∧ fl = 4 ∧ fe = 4 ∧ fh = 0 ∧ fp = 0 ∧ cw_G a1 a2 a3 ∧ (∀ l, l < n → cw_ln q l a11 a12 a13 a14 a15 a16) ∧ (∀ l, l < 4 → ∀ p, 2 ≤ p → p < 8 → a16 (l * 8 + p) = 0)
def cw_B (n : Nat) (a17 : Nat → Int32) : Prop := ∀ l, l < n → ∀ c, c < 2 → a17 (l * 5 + (c + 1)) = nI (c + 1)
/-- all lines set, the machines ready -/
def cw_R (q : Nat → Nat) (u : St2) : Prop := match u with
  | (fr, fc, fl, fe, fh, fp, fy, fo, fn, fa, fz, a1, a2, a3, a4, a5, a6, a7, a8, a9, a10, a11, a12, a13, a14, a15, a16, a17, a18, a19, a20, a21) => cw_A q 4 (fr, fc, fl, fe, fh, fp, fy, fo, fn, fa, fz, a1, a2, a3, a4, a5, a6, a7, a8, a9, a10, a11, a12, a13, a14, a15, a16, a17, a18, a19, a20, a21) ∧ fy = 1 ∧ cw_B 4 a17
/-- all lines set, ready or not -/
def cw_Q (q : Nat → Nat) (u : St2) : Prop := match u with
  | (fr, fc, fl, fe, fh, fp, fy, fo, fn, fa, fz, a1, a2, a3, a4, a5, a6, a7, a8, a9, a10, a11, a12, a13, a14, a15, a16, a17, a18, a19, a20, a21) => cw_A q 4 (fr, fc, fl, fe, fh, fp, fy, fo, fn, fa, fz, a1, a2, a3, a4, a5, a6, a7, a8, a9, a10, a11, a12, a13, a14, a15, a16, a17, a18, a19, a20, a21) ∧ (fy = 0 ∨ (fy = 1 ∧ cw_B 4 a17))
theorem cw_RQ {q : Nat → Nat} {u : St2} (h : cw_R q u) : cw_Q q u := by
  obtain ⟨fr, fc, fl, fe, fh, fp, fy, fo, fn, fa, fz, a1, a2, a3, a4, a5, a6, a7, a8, a9, a10, a11, a12, a13, a14, a15, a16, a17, a18, a19, a20, a21⟩ := u
  obtain ⟨h1, h2⟩ := h
  exact ⟨h1, Or.inr h2⟩

theorem cw_A_c {q : Nat → Nat} {n : Nat} {fr fc fl fe fh fp fy fo fn fa fz : Int32} {a1 a2 a3 a4 a5 a6 a7 a8 a9 a10 a11 a12 a13 a14 a15 a16 a17 a18 a19 a20 a21 : Nat → Int32} {gy go gn ga gz : Int32} {b4 b5 b6 b7 b8 b9 b10 b17 b18 b19 b20 b21 : Nat → Int32} (h : cw_A q n (fr, fc, fl, fe, fh, fp, fy, fo, fn, fa, fz, a1, a2, a3, a4, a5, a6, a7, a8, a9, a10, a11, a12, a13, a14, a15, a16, a17, a18, a19, a20, a21)) : cw_A q n (fr, fc, fl, fe, fh, fp, gy, go, gn, ga, gz, a1, a2, a3, b4, b5, b6, b7, b8, b9, b10, a11, a12, a13, a14, a15, a16, b17, b18, b19, b20, b21) := by
  obtain ⟨h1, h2, h3, h4, h5, h6, h7, h8, h9⟩ := h
  exact ⟨h1, h2, h3, h4, h5, h6, h7, h8, h9⟩
theorem cw_R_c {q : Nat → Nat} {fr fc fl fe fh fp fy fo fn fa fz : Int32} {a1 a2 a3 a4 a5 a6 a7 a8 a9 a10 a11 a12 a13 a14 a15 a16 a17 a18 a19 a20 a21 : Nat → Int32} {go gn ga gz : Int32} {b4 b5 b6 b7 b8 b9 b10 b18 b19 b20 b21 : Nat → Int32} (h : cw_R q (fr, fc, fl, fe, fh, fp, fy, fo, fn, fa, fz, a1, a2, a3, a4, a5, a6, a7, a8, a9, a10, a11, a12, a13, a14, a15, a16, a17, a18, a19, a20, a21)) : cw_R q (fr, fc, fl, fe, fh, fp, fy, go, gn, ga, gz, a1, a2, a3, b4, b5, b6, b7, b8, b9, b10, a11, a12, a13, a14, a15, a16, a17, b18, b19, b20, b21) := by
  obtain ⟨h1, h2, h3⟩ := h
  exact ⟨cw_A_c h1, h2, h3⟩

/-! one step of a line's machine -/
theorem cw_st22 {post : Int32 → Prop} {x1 x3 st r : Int32} {fr fc fl fe fh fp fy fo fn fa fz : Int32} {a1 a2 a3 a4 a5 a6 a7 a8 a9 a10 a11 a12 a13 a14 a15 a16 a17 a18 a19 a20 a21 : Nat → Int32} (i0 : Nat) (hi : i0 ≤ 8) (hb : ∀ p, i0 ≤ p → p < 8 → ¬ ((st >>> (nI p &&& 31)) &&& 1) = 1)
    (H : ((x3 = 0 → (vp_in x1 7 ∧ (post (r &&& (a14 x1.toNatClampNeg))))) ∧ (¬ x3 = 0 → (vp_in x1 7 ∧ (post (r &&& (a15 x1.toNatClampNeg))))))) :
    ∃ n, wX_step_22 post x1 st x3 fr fc fl fe fh fp fy fo fn fa fz a1 a2 a3 a4 a5 a6 a7 a8 a9 a10 a11 a12 a13 a14 a15 a16 a17 a18 a19 a20 a21 n r (nI i0) :=
  pk_loop (σ := Unit) (fun n i _ => wX_step_22 post x1 st x3 fr fc fl fe fh fp fy fo fn fa fz a1 a2 a3 a4 a5 a6 a7 a8 a9 a10 a11 a12 a13 a14 a15 a16 a17 a18 a19 a20 a21 n r (nI i)) (fun i _ => i0 ≤ i) 8 i0 () hi (Nat.le_refl _)
    (fun n _ _ => pk_le 8 8 (fun _ => H) (fun z => absurd z (by omega)))
    (fun n i _ hi h hw => pk_le 8 i (fun z => absurd z (by omega)) (fun _ => br_f (hb i h hi) (nm_r (nI_1 i) (hw () (by omega)))))
theorem cw_step {q : Nat → Nat} {post : Int32 → Prop} {u : St2} {l c v : Nat} {x1 st : Int32} (hl : l < 4) (hc : c < 2) (hv : v < 2) (hA : cw_A q 4 u) (hx : x1 = nI l) (hs : st = if c = 0 then 256 else 1)
    (H : post (if cw_al (q (2 * l + c)) v then nI (c + 1) else 0)) : wpX_step post u x1 st (nI v) := by
  obtain ⟨fr, fc, fl, fe, fh, fp, fy, fo, fn, fa, fz, a1, a2, a3, a4, a5, a6, a7, a8, a9, a10, a11, a12, a13, a14, a15, a16, a17, a18, a19, a20, a21⟩ := u
  obtain ⟨-, -, -, -, -, -, -, hL, -⟩ := hA
  obtain ⟨e11, -, -, m0, m1, e16, -⟩ := hL l hl
  subst hx
  have hcl : (nI l).toNatClampNeg = l := nI_clamp (by omega)
  have E : ∀ r : Int32, (∀ v', v' = 0 → r &&& a14 l = if cw_al (q (2 * l + c)) v' then nI (c + 1) else 0) → (∀ v', v' = 1 → r &&& a15 l = if cw_al (q (2 * l + c)) v' then nI (c + 1) else 0) →
      ((nI v = 0 → (vp_in (nI l) 7 ∧ (post (r &&& (a14 (nI l).toNatClampNeg))))) ∧ (¬ nI v = 0 → (vp_in (nI l) 7 ∧ (post (r &&& (a15 (nI l).toNatClampNeg)))))) := by
    intro r h0 h1
    rw [hcl]
    refine pk_eq v 0 (fun z => ⟨pk_in l 7 (by omega), ?_⟩) (fun z => ⟨pk_in l 7 (by omega), ?_⟩)
    · rw [h0 v z]
      exact H
    · rw [h1 v (by omega)]
      exact H
  have hc' : c = 0 ∨ c = 1 := by omega
  rcases hc' with rfl | rfl
  · rw [if_pos rfl] at hs
    subst hs
    refine br_f (by decide) ⟨pk_in l 7 (by omega), nm_r (e' := 1) (by rw [hcl]; exact e11) ?_⟩
    refine cw_st22 0 (by omega) (fun p _ hp => cw_b256 p hp) (E 1 ?_ ?_)
    · rintro _ rfl
      exact m0.1
    · rintro _ rfl
      exact m1.1
  · rw [if_neg (by decide)] at hs
    subst hs
    refine br_t (by decide) ?_
    have := cw_st22 (post := post) (x1 := nI l) (x3 := nI v) (st := 1) (r := 2) (fr := fr) (fc := fc) (fl := fl) (fe := fe) (fh := fh) (fp := fp) (fy := fy) (fo := fo) (fn := fn) (fa := fa) (fz := fz) (a1 := a1) (a2 := a2) (a3 := a3) (a4 := a4) (a5 := a5) (a6 := a6) (a7 := a7) (a8 := a8) (a9 := a9) (a10 := a10) (a11 := a11) (a12 := a12) (a13 := a13) (a14 := a14) (a15 := a15) (a16 := a16) (a17 := a17) (a18 := a18) (a19 := a19) (a20 := a20) (a21 := a21) 1 (by omega) (fun p h1 h2 => cw_b1 p h2 h1) (E 2 (by rintro _ rfl; exact m0.2) (by rintro _ rfl; exact m1.2))
    obtain ⟨n, hn⟩ := this
    have i8 : nI l * 8 + 0 = nI (l * 8) := by
      rw [show (8 : Int32) = nI 8 from rfl, show (0 : Int32) = nI 0 from rfl, pk_mul, nI_add]
      rfl
    refine ⟨n + 1, br_f (by decide) (br_t (by decide) ⟨?_, ?_⟩)⟩
    · rw [i8]
      exact pk_in (l * 8) 56 (by omega)
    · refine nm_r (e' := 2) ?_ (nm_r (e' := nI 1) rfl hn)
      rw [i8, nI_clamp (by omega), e16]
      rfl

/-! the places before a set -/
def cw_bf (g : Int32) : Int32 := if 2 &&& g = 0 then (if 1 &&& g = 0 then 0 else 256) else (if 1 &&& g = 0 then 0 else 256) ||| 1
theorem cw_bf48 {post : Int32 → Prop} {x1 g r : Int32} {l : Nat} {fr fc fl fe fh fp fy fo fn fa fz : Int32} {a1 a2 a3 a4 a5 a6 a7 a8 a9 a10 a11 a12 a13 a14 a15 a16 a17 a18 a19 a20 a21 : Nat → Int32} (hx : x1 = nI l) (hl : l < 4) (h0 : a16 (l * 8) = 2) (h1 : ∀ p, 1 ≤ p → p < 8 → a16 (l * 8 + p) = 0)
    (H : post (if 2 &&& g = 0 then r else r ||| 1)) : ∃ n, wX_before_48 post x1 g fr fc fl fe fh fp fy fo fn fa fz a1 a2 a3 a4 a5 a6 a7 a8 a9 a10 a11 a12 a13 a14 a15 a16 a17 a18 a19 a20 a21 n r 0 := by
  subst hx
  have ix : ∀ p, p < 8 → nI l * 8 + nI p = nI (l * 8 + p) := fun p _ => by
    rw [show (8 : Int32) = nI 8 from rfl, pk_mul, nI_add]
  have L : ∀ r' : Int32, post r' → ∃ n, wX_before_48 post (nI l) g fr fc fl fe fh fp fy fo fn fa fz a1 a2 a3 a4 a5 a6 a7 a8 a9 a10 a11 a12 a13 a14 a15 a16 a17 a18 a19 a20 a21 n r' (nI 1) := fun r' h =>
    pk_loop (σ := Unit) (fun n i _ => wX_before_48 post (nI l) g fr fc fl fe fh fp fy fo fn fa fz a1 a2 a3 a4 a5 a6 a7 a8 a9 a10 a11 a12 a13 a14 a15 a16 a17 a18 a19 a20 a21 n r' (nI i)) (fun i _ => 1 ≤ i) 8 1 () (by omega) (Nat.le_refl _)
      (fun n _ _ => pk_le 8 8 (fun _ => h) (fun z => absurd z (by omega)))
      (fun n i _ hi h hw => pk_le 8 i (fun z => absurd z (by omega)) (fun _ => ⟨pk_in (l * 8 + i) 56 (by omega) (ix i hi), br_t (by rw [ix i hi, nI_clamp (by omega), h1 i h hi]; exact Int32.zero_and) (nm_r (nI_1 i) (hw () (by omega)))⟩))
  by_cases hg : 2 &&& g = 0
  · rw [if_pos hg] at H
    obtain ⟨n, hn⟩ := L r H
    exact ⟨n + 1, br_f (by decide) ⟨pk_in (l * 8 + 0) 56 (by omega) (ix 0 (by omega)), br_t (by rw [show (0 : Int32) = nI 0 from rfl, ix 0 (by omega), nI_clamp (by omega), Nat.add_zero, h0]; exact hg) (nm_r (e' := nI 1) rfl hn)⟩⟩
  · rw [if_neg hg] at H
    obtain ⟨n, hn⟩ := L _ H
    exact ⟨n + 1, br_f (by decide) ⟨pk_in (l * 8 + 0) 56 (by omega) (ix 0 (by omega)), br_f (by rw [show (0 : Int32) = nI 0 from rfl, ix 0 (by omega), nI_clamp (by omega), Nat.add_zero, h0]; exact hg) (nm_r (e' := r ||| 1) rfl (nm_r (e' := nI 1) rfl hn))⟩⟩
theorem cw_before {q : Nat → Nat} {post : Int32 → Prop} {u : St2} {l v : Nat} {x1 st x2 : Int32} (hl : l < 4) (hv : v < 2) (hx : x1 = nI l) (hx2 : x2 = nI v) (hA : cw_A q 4 u)
    (H : ∀ m, cw_mk m (q (2 * l)) (q (2 * l + 1)) v → post (cw_bf (st &&& m))) : wpX_before post u x1 st x2 := by
  obtain ⟨fr, fc, fl, fe, fh, fp, fy, fo, fn, fa, fz, a1, a2, a3, a4, a5, a6, a7, a8, a9, a10, a11, a12, a13, a14, a15, a16, a17, a18, a19, a20, a21⟩ := u
  obtain ⟨-, -, -, -, -, -, -, hL, -⟩ := hA
  obtain ⟨e11, -, -, m0, m1, e16, e16'⟩ := hL l hl
  subst hx hx2
  have hcl : (nI l).toNatClampNeg = l := nI_clamp (by omega)
  have E : ∀ g, post (cw_bf g) → wX_before_23 post (nI l) g fr fc fl fe fh fp fy fo fn fa fz a1 a2 a3 a4 a5 a6 a7 a8 a9 a10 a11 a12 a13 a14 a15 a16 a17 a18 a19 a20 a21 := by
    intro g h
    refine ⟨pk_in l 7 (by omega), ?_⟩
    rw [hcl, e11]
    unfold cw_bf at h
    exact br_c (fun z => cw_bf48 rfl hl e16 e16' (by rw [if_pos z] at h; exact h)) (fun z => cw_bf48 rfl hl e16 e16' (by rw [if_neg z] at h; exact h))
  refine pk_eq v 0 (fun z => ⟨pk_in l 7 (by omega), E _ ?_⟩) (fun z => ⟨pk_in l 7 (by omega), E _ ?_⟩)
  · rw [hcl]
    subst z
    exact H _ m0
  · rw [hcl]
    have : v = 1 := by omega
    subst this
    exact H _ m1
end
section
/-! prepare: what is kept of the way back -/
theorem cw_A3 {q : Nat → Nat} {n : Nat} {fr fc fl fe fh fp fy fo fn fa fz : Int32} {a1 a2 a3 a4 a5 a6 a7 a8 a9 a10 a11 a12 a13 a14 a15 a16 a17 a18 a19 a20 a21 : Nat → Int32} (hA : cw_A q n (fr, fc, fl, fe, fh, fp, fy, fo, fn, fa, fz, a1, a2, a3, a4, a5, a6, a7, a8, a9, a10, a11, a12, a13, a14, a15, a16, a17, a18, a19, a20, a21)) : ∀ e, e < 4 → a3 (nI e).toNatClampNeg = 2 := by
  intro e he
  obtain ⟨-, -, -, -, -, -, hG, -⟩ := hA
  have h := (hG (e / 2) (by omega) (e % 2) (by omega)).2.2
  rw [show 2 * (e / 2) + e % 2 = e by omega] at h
  rw [nI_clamp (by omega)]
  exact h
theorem cw_len {q : Nat → Nat} {post : Int32 → Prop} {u : St2} {x1 : Int32} (hA : cw_A q 4 u) (H : post 2) : wpX_lineLength post u x1 := by
  obtain ⟨fr, fc, fl, fe, fh, fp, fy, fo, fn, fa, fz, a1, a2, a3, a4, a5, a6, a7, a8, a9, a10, a11, a12, a13, a14, a15, a16, a17, a18, a19, a20, a21⟩ := u
  obtain ⟨rfl, rfl, -⟩ := hA
  exact br_c (fun _ => H) (fun _ => H)
theorem cw_cell {q : Nat → Nat} {post : Int32 → Prop} {u : St2} {l t : Nat} (hl : l < 4) (ht : t < 2) (hA : cw_A q 4 u) (H : ∀ e, e < 4 → post (nI e)) : wpX_cellOf post u (nI l) (nI t) := by
  obtain ⟨fr, fc, fl, fe, fh, fp, fy, fo, fn, fa, fz, a1, a2, a3, a4, a5, a6, a7, a8, a9, a10, a11, a12, a13, a14, a15, a16, a17, a18, a19, a20, a21⟩ := u
  obtain ⟨rfl, rfl, -⟩ := hA
  refine pk_le 2 l (fun z => ?_) (fun z => ?_)
  · have e : nI t * 2 + nI l - 2 = nI (t * 2 + l - 2) := by
      rw [show (2 : Int32) = nI 2 from rfl, pk_mul, nI_add, pk_sub (by omega)]
    rw [e]
    exact H _ (by omega)
  · have e : nI l * 2 + nI t = nI (l * 2 + t) := by
      rw [show (2 : Int32) = nI 2 from rfl, pk_mul, nI_add]
    rw [e]
    exact H _ (by omega)
theorem cw_pl44 {q : Nat → Nat} {post : St2 → Prop} {l t n : Nat} {st : Int32} {fr fc fl fe fh fp fy fo fn fa fz : Int32} {a1 a2 a3 a4 a5 a6 a7 a8 a9 a10 a11 a12 a13 a14 a15 a16 a17 a18 a19 a20 a21 : Nat → Int32} (hl : l < 4) (ht : t < 2) (hA : cw_A q 4 (fr, fc, fl, fe, fh, fp, fy, fo, fn, fa, fz, a1, a2, a3, a4, a5, a6, a7, a8, a9, a10, a11, a12, a13, a14, a15, a16, a17, a18, a19, a20, a21))
    (H : ∀ m0 m1, cw_mk m0 (q (2 * l)) (q (2 * l + 1)) 0 → cw_mk m1 (q (2 * l)) (q (2 * l + 1)) 1 → wX_prepareLine_44 post (nI l) fr fc fl fe fh fp fy fo fn fa fz n (cw_bf (st &&& m0) ||| cw_bf (st &&& m1)) (nI t + (-1)) a1 a2 a3 a4 a5 a6 a7 a8 a9 a10 a11 a12 a13 a14 a15 a16 (upd a17 (l * 5 + t) (cw_bf (st &&& m0) ||| cw_bf (st &&& m1))) a18 a19 a20 a21) :
    wX_prepareLine_44 post (nI l) fr fc fl fe fh fp fy fo fn fa fz (n + 1) st (nI t) a1 a2 a3 a4 a5 a6 a7 a8 a9 a10 a11 a12 a13 a14 a15 a16 a17 a18 a19 a20 a21 := by
  have h3 := cw_A3 hA
  have ix : nI l * 5 + nI t = nI (l * 5 + t) := by
    rw [show (5 : Int32) = nI 5 from rfl, pk_mul, nI_add]
  refine br_f (nI_pos (by omega)) (cw_cell hl ht hA (fun e he => ⟨pk_in e 12 (by omega), br_f (by rw [h3 e he]; decide) ?_⟩))
  refine cw_before (v := 0) hl (by omega) rfl rfl hA (fun m0 hm0 => ⟨pk_in e 12 (by omega), br_f (by rw [h3 e he]; decide) ?_⟩)
  refine cw_before (v := 1) hl (by omega) rfl rfl hA (fun m1 hm1 => nm_e ⟨?_, ?_⟩)
  · exact pk_in (l * 5 + t) 35 (by omega) ix
  · refine nm_r (e' := upd a17 (l * 5 + t) (cw_bf (st &&& m0) ||| cw_bf (st &&& m1))) ?_ (nm_e (H m0 m1 hm0 hm1))
    rw [ix, nI_clamp (by omega)]
theorem cw_bf2 {m0 m1 : Int32} {x y : Nat} (hy : y < 3) (h0 : cw_mk m0 x y 0) (h1 : cw_mk m1 x y 1) : cw_bf (2 &&& m0) ||| cw_bf (2 &&& m1) = 1 := by
  rw [h0.2, h1.2]
  have : y = 0 ∨ y = 1 ∨ y = 2 := by omega
  rcases this with rfl | rfl | rfl <;> decide
theorem cw_prepLine {q : Nat → Nat} {post : St2 → Prop} {l : Nat} {fr fc fl fe fh fp fy fo fn fa fz : Int32} {a1 a2 a3 a4 a5 a6 a7 a8 a9 a10 a11 a12 a13 a14 a15 a16 a17 a18 a19 a20 a21 : Nat → Int32} (hq : ∀ i, q i < 3) (hl : l < 4) (hA : cw_A q 4 (fr, fc, fl, fe, fh, fp, fy, fo, fn, fa, fz, a1, a2, a3, a4, a5, a6, a7, a8, a9, a10, a11, a12, a13, a14, a15, a16, a17, a18, a19, a20, a21))
    (H : ∀ s, s (l * 5 + 1) = 1 → s (l * 5 + 2) = 2 → (∀ j, (j < l * 5 ∨ l * 5 + 3 ≤ j) → s j = a17 j) → post (fr, fc, fl, fe, fh, fp, fy, fo, fn, fa, fz, a1, a2, a3, a4, a5, a6, a7, a8, a9, a10, a11, a12, a13, a14, a15, a16, s, a18, a19, a20, a21)) : wpX_prepareLine post (fr, fc, fl, fe, fh, fp, fy, fo, fn, fa, fz, a1, a2, a3, a4, a5, a6, a7, a8, a9, a10, a11, a12, a13, a14, a15, a16, a17, a18, a19, a20, a21) (nI l) := by
  have hA' := hA
  obtain ⟨-, -, -, -, -, -, -, hL, -⟩ := hA'
  obtain ⟨-, e12, e13, -, -, -, -⟩ := hL l hl
  have hcl : (nI l).toNatClampNeg = l := nI_clamp (by omega)
  have ix : nI l * 5 + 2 = nI (l * 5 + 2) := by
    rw [show (5 : Int32) = nI 5 from rfl, show (2 : Int32) = nI 2 from rfl, pk_mul, nI_add]
  unfold wpX_prepareLine
  refine cw_len hA ⟨pk_in l 7 (by omega), nm_r (e' := 2) (by rw [hcl]; exact e12) ⟨pk_in l 7 (by omega), br_t (by rw [hcl]; exact e13) ?_⟩⟩
  refine ⟨pk_in (l * 5 + 2) 35 (by omega) ix, nm_r (e' := upd a17 (l * 5 + 2) 2) (by rw [ix, nI_clamp (by omega)]) (nm_r (e' := nI 1) rfl ⟨3, ?_⟩)⟩
  refine cw_pl44 (t := 1) hl (by omega) (cw_A_c hA) (fun m0 m1 h0 h1 => ?_)
  rw [cw_bf2 (hq _) h0 h1]
  refine cw_pl44 (t := 0) hl (by omega) (cw_A_c hA) (fun m0 m1 h0 h1 => ?_)
  refine br_t (by decide) (H _ ?_ ?_ ?_)
  · rw [pk_un (by omega), pk_us]
  · rw [pk_un (by omega), pk_un (by omega), pk_us]
  · intro j hj
    rw [pk_un (by omega), pk_un (by omega), pk_un (by omega)]
theorem cw_prep {q : Nat → Nat} {post : St2 → Prop} {u : St2} (hq : ∀ i, q i < 3) (hQ : cw_Q q u) (H : ∀ u', cw_R q u' → post u') : wpX_prepare post u := by
  obtain ⟨fr, fc, fl, fe, fh, fp, fy, fo, fn, fa, fz, a1, a2, a3, a4, a5, a6, a7, a8, a9, a10, a11, a12, a13, a14, a15, a16, a17, a18, a19, a20, a21⟩ := u
  obtain ⟨hA, h⟩ := hQ
  have hA' := hA
  obtain ⟨rfl, rfl, rfl, rfl, rfl, rfl, -⟩ := hA'
  rcases h with rfl | ⟨rfl, hB⟩
  · refine br_t rfl ?_
    refine pk_loop (fun n i s => wX_prepare_10 post n (nI i) 2 2 4 4 0 0 0 fo fn fa fz a1 a2 a3 a4 a5 a6 a7 a8 a9 a10 a11 a12 a13 a14 a15 a16 s a18 a19 a20 a21) (fun i s => cw_B i s) 4 0 a17 (by omega) (fun l hl => absurd hl (by omega)) (fun n s h => ?_) (fun n i s hi h hw => ?_)
    · exact pk_le 4 4 (fun _ => H _ ⟨cw_A_c hA, rfl, h⟩) (fun z => absurd z (by omega))
    · refine pk_le 4 i (fun z => absurd z (by omega)) (fun _ => cw_prepLine hq hi (cw_A_c hA) (fun s' e1 e2 e3 => nm_r (nI_1 i) (hw s' ?_)))
      intro l hl c hc
      by_cases e : l = i
      · subst e
        have hc' : c = 0 ∨ c = 1 := by omega
        rcases hc' with rfl | rfl
        · exact e1
        · exact e2
      · rw [e3 _ (Or.inl (by omega))]
        exact h l (by omega) c hc
  · exact br_f (by decide) (H _ ⟨hA, rfl, hB⟩)
end
section
/-! the law's set-up: the new object, and a line of two letters -/
theorem cw_aw {post : St2 → Prop} {l : Nat} {fr fc fl fe fh fp fy fo fn fa fz : Int32} {a1 a2 a3 a4 a5 a6 a7 a8 a9 a10 a11 a12 a13 a14 a15 a16 a17 a18 a19 a20 a21 : Nat → Int32} (hl : l < 4) (h16 : ∀ j, j % 8 ≠ 0 → a16 j = 0)
    (H : ∀ s11 s12 s13 s14 s15 s16, (∀ j, j % 8 ≠ 0 → s16 j = 0) → post (fr, fc, fl, fe, fh, fp, 0, fo, fn, fa, fz, a1, a2, a3, a4, a5, a6, a7, a8, a9, a10, s11, s12, s13, s14, s15, s16, a17, a18, a19, a20, a21)) : wpX_anyWord post (fr, fc, fl, fe, fh, fp, fy, fo, fn, fa, fz, a1, a2, a3, a4, a5, a6, a7, a8, a9, a10, a11, a12, a13, a14, a15, a16, a17, a18, a19, a20, a21) (nI l) := by
  have ix : ∀ p, nI l * 8 + nI p = nI (l * 8 + p) := fun p => by
    rw [show (8 : Int32) = nI 8 from rfl, pk_mul, nI_add]
  have ix0 : nI l * 8 = nI (l * 8) := by
    rw [show (8 : Int32) = nI 8 from rfl, pk_mul]
  refine ⟨pk_in l 7 (by omega), nm_e ⟨pk_in l 7 (by omega), nm_e ⟨pk_in l 7 (by omega), nm_e ⟨pk_in l 7 (by omega), nm_e ⟨pk_in l 7 (by omega), nm_e ?_⟩⟩⟩⟩⟩
  refine pk_loop (fun n i s => wX_anyWord_37 post (nI l) fr fc fl fe fh fp fy fo fn fa fz n (nI i) a1 a2 a3 a4 a5 a6 a7 a8 a9 a10 (upd a11 (nI l).toNatClampNeg 1) (upd a12 (nI l).toNatClampNeg 1) (upd a13 (nI l).toNatClampNeg 1) (upd a14 (nI l).toNatClampNeg 1) (upd a15 (nI l).toNatClampNeg 1) s a17 a18 a19 a20 a21) (fun i s => ∀ j, j % 8 ≠ 0 → s j = 0) 8 0 a16 (by omega) h16 (fun n s h => ?_) (fun n i s hi h hw => ?_)
  · refine pk_le 8 8 (fun _ => ⟨pk_in (l * 8) 56 (by omega) ix0, nm_e (H _ _ _ _ _ _ ?_)⟩) (fun z => absurd z (by omega))
    intro j hj
    rw [ix0, nI_clamp (by omega), pk_un (by omega)]
    exact h j hj
  · refine pk_le 8 i (fun z => absurd z (by omega)) (fun _ => ⟨pk_in (l * 8 + i) 56 (by omega) (ix i), nm_e (nm_r (nI_1 i) (hw _ ?_))⟩)
    intro j hj
    rw [ix i, nI_clamp (by omega)]
    by_cases e : j = l * 8 + i
    · rw [e, pk_us]
    · rw [pk_un e]
      exact h j hj
theorem cw_i302 {post : St2 → Prop} {mc ms kc ks : Nat} {fo fn fa fz : Int32} {a1 a2 a3 a4 a5 a6 a7 a8 a9 a10 a11 a12 a13 a14 a15 a16 a17 a18 a19 a20 a21 : Nat → Int32} (q : Nat → Nat) (hG : cw_G a1 a2 a3) (h16 : ∀ j, j % 8 ≠ 0 → a16 j = 0) (H : ∀ u, cw_A q 0 u → (match u with | (fr, fc, fl, fe, fh, fp, fy, fo, fn, fa, fz, a1, a2, a3, a4, a5, a6, a7, a8, a9, a10, a11, a12, a13, a14, a15, a16, a17, a18, a19, a20, a21) => fy = 0) → post u) :
    ∃ n, wX_init_302 post mc ms 2 2 kc ks n 0 2 2 4 4 0 0 0 fo fn fa fz a1 a2 a3 a4 a5 a6 a7 a8 a9 a10 a11 a12 a13 a14 a15 a16 a17 a18 a19 a20 a21 := by
  refine pk_loop (σ := (Nat → Int32) × (Nat → Int32) × (Nat → Int32) × (Nat → Int32) × (Nat → Int32) × (Nat → Int32)) (fun n i s => wX_init_302 post mc ms 2 2 kc ks n (nI i) 2 2 4 4 0 0 0 fo fn fa fz a1 a2 a3 a4 a5 a6 a7 a8 a9 a10 s.1 s.2.1 s.2.2.1 s.2.2.2.1 s.2.2.2.2.1 s.2.2.2.2.2 a17 a18 a19 a20 a21) (fun i s => ∀ j, j % 8 ≠ 0 → s.2.2.2.2.2 j = 0) 4 0 (a11, a12, a13, a14, a15, a16) (by omega) h16 (fun n s h => ?_) (fun n i s hi h hw => ?_)
  · refine pk_le 4 4 (fun _ => H _ ⟨rfl, rfl, rfl, rfl, rfl, rfl, hG, fun l hl => absurd hl (by omega), fun l hl p h1 h2 => h _ (by omega)⟩ rfl) (fun z => absurd z (by omega))
  · refine pk_le 4 i (fun z => absurd z (by omega)) (fun _ => cw_aw hi h (fun s11 s12 s13 s14 s15 s16 h' => nm_r (nI_1 i) (hw (s11, s12, s13, s14, s15, s16) h')))
theorem cw_init (q : Nat → Nat) {post : St2 → Prop} {mc ms : Nat} (h1 : 21 ≤ mc) (h2 : 258 ≤ ms) (H : ∀ u, cw_A q 0 u → (match u with | (fr, fc, fl, fe, fh, fp, fy, fo, fn, fa, fz, a1, a2, a3, a4, a5, a6, a7, a8, a9, a10, a11, a12, a13, a14, a15, a16, a17, a18, a19, a20, a21) => fy = 0) → post u) :
    wpX_init post mc ms (0, 0, 0, 0, 0, 0, 0, 0, 0, 0, 0) 2 2 := by
  refine ⟨by omega, by omega, by omega, by omega, by omega, by omega, by omega, by omega, by omega, by omega, by omega, by omega, by omega, by omega, by omega, by omega, by omega, by omega, by omega, by omega, by omega, by omega, by omega, by omega, by omega, by omega, by omega, by omega, by omega, by omega, by omega, by omega, by omega, by omega, by omega, by omega, by omega, by omega, by omega, by omega, by omega, by omega, ?_⟩
  refine br_t (by decide) (br_t (by decide) (br_t (by decide) (br_t (by decide) (nm_r (e' := 4) rfl (nm_r (e' := 4) rfl ⟨3, ?_⟩)))))
  refine br_f (by decide) ⟨3, br_f (by decide) ⟨pk_in 0 12 (by omega), nm_e ⟨pk_in 0 12 (by omega), nm_e ⟨pk_in 0 12 (by omega), nm_e (nm_r (e' := nI 1) rfl (nm_r (e' := nI 1) rfl ?_))⟩⟩⟩⟩
  refine br_f (by decide) ⟨pk_in 1 12 (by omega), nm_e ⟨pk_in 1 12 (by omega), nm_e ⟨pk_in 1 12 (by omega), nm_e (nm_r (e' := nI 2) rfl (nm_r (e' := nI 2) rfl ?_))⟩⟩⟩
  refine br_t (by decide) (nm_r (e' := nI 1) rfl ?_)
  refine br_f (by decide) ⟨3, br_f (by decide) ⟨pk_in 2 12 (by omega), nm_e ⟨pk_in 2 12 (by omega), nm_e ⟨pk_in 2 12 (by omega), nm_e (nm_r (e' := nI 3) rfl (nm_r (e' := nI 1) rfl ?_))⟩⟩⟩⟩
  refine br_f (by decide) ⟨pk_in 3 12 (by omega), nm_e ⟨pk_in 3 12 (by omega), nm_e ⟨pk_in 3 12 (by omega), nm_e (nm_r (e' := nI 4) rfl (nm_r (e' := nI 2) rfl ?_))⟩⟩⟩
  refine br_t (by decide) (nm_r (e' := nI 2) rfl ?_)
  refine br_t (by decide) (cw_i302 q ?_ (fun _ _ => rfl) H)
  intro r hr c hc
  have hr' : r = 0 ∨ r = 1 := by omega
  have hc' : c = 0 ∨ c = 1 := by omega
  rcases hr' with rfl | rfl <;> rcases hc' with rfl | rfl <;> exact ⟨by decide, by decide, by decide⟩

theorem cw_letter {post : Int32 → St2 → Prop} {h p x : Nat} {fr fc fl fe fh fp fy fo fn fa fz : Int32} {a1 a2 a3 a4 a5 a6 a7 a8 a9 a10 a11 a12 a13 a14 a15 a16 a17 a18 a19 a20 a21 : Nat → Int32} (hh : h < 6) (hp : p < 8) (hx : x < 3) (e1 : fh = nI h) (e2 : fp = nI p)
    (H : post (nI (h + 1)) (fr, fc, fl, fe, nI (h + 1), nI (p + 1), fy, fo, fn, fa, fz, a1, a2, a3, upd a4 h (nI p), upd a5 h ((1 : Int32) <<< (nI p &&& 31)), upd a6 h ((1 : Int32) <<< (nI p &&& 31)), upd a7 h 0, upd a8 p (nI x), upd a9 p 0, a10, a11, a12, a13, a14, a15, a16, a17, a18, a19, a20, a21)) : wpX_letter post (fr, fc, fl, fe, fh, fp, fy, fo, fn, fa, fz, a1, a2, a3, a4, a5, a6, a7, a8, a9, a10, a11, a12, a13, a14, a15, a16, a17, a18, a19, a20, a21) (nI x) := by
  subst e1 e2
  have ch : (nI h).toNatClampNeg = h := nI_clamp (by omega)
  have cp : (nI p).toNatClampNeg = p := nI_clamp (by omega)
  refine br_f (nI_pos (by omega)) (br_t (nI_le (b := 2) (by omega) (by decide)) (pk_eq h 6 (fun z => absurd z (by omega)) (fun _ => pk_eq p 8 (fun z => absurd z (by omega)) (fun _ => nm_e ?_))))
  refine ⟨pk_in h 6 hh, nm_r (congrArg (fun k => upd a4 k (nI p)) ch) ⟨pk_in h 6 hh, nm_r (congrArg (fun k => upd a5 k _) ch) ⟨pk_in h 6 hh, nm_r (congrArg (fun k => upd a6 k _) ch) ⟨pk_in h 6 hh, nm_r (e' := upd a7 h 0) (congrArg (fun k => upd a7 k 0) ch) (nm_r (nI_1 h) ?_)⟩⟩⟩⟩
  exact ⟨pk_in p 8 hp, nm_r (congrArg (fun k => upd a8 k (nI x)) cp) ⟨pk_in p 8 hp, nm_r (congrArg (fun k => upd a9 k 0) cp) (nm_r (nI_1 p) H)⟩⟩
theorem cw_link {post : St2 → Prop} {x1 x2 : Int32} {fr fc fl fe fh fp fy fo fn fa fz : Int32} {a1 a2 a3 a4 a5 a6 a7 a8 a9 a10 a11 a12 a13 a14 a15 a16 a17 a18 a19 a20 a21 : Nat → Int32} (h1 : x1 = 1) (h2 : x2 = 2) (H : post (fr, fc, fl, fe, fh, fp, fy, fo, fn, fa, fz, a1, a2, a3, a4, a5, a6, a7, a8, upd a9 0 (a9 0 ||| 2), a10, a11, a12, a13, a14, a15, a16, a17, a18, a19, a20, a21)) : wpX_link post (fr, fc, fl, fe, fh, fp, fy, fo, fn, fa, fz, a1, a2, a3, a4, a5, a6, a7, a8, a9, a10, a11, a12, a13, a14, a15, a16, a17, a18, a19, a20, a21) x1 x2 := by
  subst h1 h2
  have L : ∃ n, wX_link_2 post 1 2 fr fc fl fe fh fp fy fo fn fa fz n (nI 1) a1 a2 a3 a4 a5 a6 a7 a8 (upd a9 0 (a9 0 ||| 2)) a10 a11 a12 a13 a14 a15 a16 a17 a18 a19 a20 a21 :=
    pk_loop (σ := Unit) (fun n i _ => wX_link_2 post 1 2 fr fc fl fe fh fp fy fo fn fa fz n (nI i) a1 a2 a3 a4 a5 a6 a7 a8 (upd a9 0 (a9 0 ||| 2)) a10 a11 a12 a13 a14 a15 a16 a17 a18 a19 a20 a21) (fun i _ => 1 ≤ i) 8 1 () (by omega) (Nat.le_refl _)
      (fun n _ _ => pk_le 8 8 (fun _ => H) (fun z => absurd z (by omega)))
      (fun n i _ hi h hw => pk_le 8 i (fun z => absurd z (by omega)) (fun _ => br_f (cw_b1 i hi h) (nm_r (nI_1 i) (hw () (by omega)))))
  obtain ⟨n, hn⟩ := L
  exact ⟨n + 1, br_f (by decide) (br_t (by decide) ⟨pk_in 0 8 (by omega), pk_in 0 8 (by omega), nm_r (e' := upd a9 0 (a9 0 ||| 2)) (by rw [sb_cl0]) (nm_r (e' := nI 1) rfl hn)⟩)⟩
theorem cw_cat {post : Int32 → St2 → Prop} {fr fc fl fe fh fp fy fo fn fa fz : Int32} {a1 a2 a3 a4 a5 a6 a7 a8 a9 a10 a11 a12 a13 a14 a15 a16 a17 a18 a19 a20 a21 : Nat → Int32} (e : fh = nI 2) (h60 : a6 0 = 1) (h51 : a5 1 = 2) (h61 : a6 1 = 2) (h70 : a7 0 = 0) (h71 : a7 1 = 0)
    (H : post (nI 1) (fr, fc, fl, fe, nI 1, fp, fy, fo, fn, fa, fz, a1, a2, a3, a4, a5, upd a6 0 2, upd a7 0 0, a8, upd a9 0 (a9 0 ||| 2), a10, a11, a12, a13, a14, a15, a16, a17, a18, a19, a20, a21)) : wpX_cat post (fr, fc, fl, fe, fh, fp, fy, fo, fn, fa, fz, a1, a2, a3, a4, a5, a6, a7, a8, a9, a10, a11, a12, a13, a14, a15, a16, a17, a18, a19, a20, a21) := by
  subst e
  have c0 : (nI 0).toNatClampNeg = 0 := nI_clamp (by decide)
  have c1 : (nI 1).toNatClampNeg = 1 := nI_clamp (by decide)
  refine br_t (by decide) (nm_r (e' := nI 1) rfl (nm_r (e' := nI 0) rfl ⟨pk_in 0 6 (by omega), pk_in 1 6 (by omega), ?_⟩))
  refine cw_link (by rw [c0, h60]) (by rw [c1, h51]) ⟨pk_in 0 6 (by omega), br_t (by rw [c0, h70]) ?_⟩
  refine ⟨pk_in 1 6 (by omega), br_t (by rw [c1, h71]) ⟨pk_in 1 6 (by omega), pk_in 0 6 (by omega), nm_r (e' := upd a6 0 2) (by rw [c0, c1, h61]) ?_⟩⟩
  exact ⟨pk_in 0 6 (by omega), br_t (by rw [c0, h70]) ⟨pk_in 0 6 (by omega), nm_r (e' := upd a7 0 0) (by rw [c0]) H⟩⟩
def cw_o (f : Nat → Int32) (l : Nat) (b : Int32) (c : Bool) : Nat → Int32 := if c then f else upd f l (f l ||| b)
theorem cw_o_l {f : Nat → Int32} {l : Nat} {b : Int32} {c : Bool} : cw_o f l b c l = if c then f l else f l ||| b := by
  unfold cw_o
  cases c
  · exact pk_us
  · rfl
theorem cw_o_n {f : Nat → Int32} {l j : Nat} {b : Int32} {c : Bool} (h : j ≠ l) : cw_o f l b c j = f j := by
  unfold cw_o
  cases c
  · exact pk_un h
  · rfl
theorem cw_bit : ∀ p, p < 2 → (1 : Int32) <<< ((nI p - 0) &&& 31) = nI (p + 1) := by decide +kernel
theorem cw_sl96 {post : Int32 → St2 → Prop} {x2 : Int32} {l n p x : Nat} {fr fc fl fe fh fp fy fo fn fa fz : Int32} {a1 a2 a3 a4 a5 a6 a7 a8 a9 a10 a11 a12 a13 a14 a15 a16 a17 a18 a19 a20 a21 : Nat → Int32} (hl : l < 4) (hp : p < 2) (hx : x < 3) (ep : fp = nI 2) (hk : a8 p = nI x)
    (H : wX_setLine_96 post (nI l) x2 0 fr fc fl fe fh fp fy fo fn fa fz n (nI (p + 1)) a1 a2 a3 a4 a5 a6 a7 a8 a9 a10 a11 a12 a13 (cw_o a14 l (nI (p + 1)) (x == 1)) (cw_o a15 l (nI (p + 1)) (x == 0)) (upd a16 (l * 8 + p) (a9 p)) a17 a18 a19 a20 a21) :
    wX_setLine_96 post (nI l) x2 0 fr fc fl fe fh fp fy fo fn fa fz (n + 1) (nI p) a1 a2 a3 a4 a5 a6 a7 a8 a9 a10 a11 a12 a13 a14 a15 a16 a17 a18 a19 a20 a21 := by
  subst ep
  have cl : (nI l).toNatClampNeg = l := nI_clamp (by omega)
  have cp : (nI p).toNatClampNeg = p := nI_clamp (by omega)
  have ix : nI l * 8 + nI p - 0 = nI (l * 8 + p) := by
    rw [show (8 : Int32) = nI 8 from rfl, show (0 : Int32) = nI 0 from rfl, pk_mul, nI_add, pk_sub (by omega)]
    rfl
  have E : ∀ s14 s15 : Nat → Int32, wX_setLine_96 post (nI l) x2 0 fr fc fl fe fh (nI 2) fy fo fn fa fz n (nI (p + 1)) a1 a2 a3 a4 a5 a6 a7 a8 a9 a10 a11 a12 a13 s14 s15 (upd a16 (l * 8 + p) (a9 p)) a17 a18 a19 a20 a21 →
      wX_setLine_164 post (wX_setLine_96 post (nI l) x2 0 fr fc fl fe fh (nI 2) fy fo fn fa fz n) (nI l) x2 0 (nI p) fr fc fl fe fh (nI 2) fy fo fn fa fz a1 a2 a3 a4 a5 a6 a7 a8 a9 a10 a11 a12 a13 s14 s15 a16 a17 a18 a19 a20 a21 := by
    intro s14 s15 h
    refine ⟨pk_in p 8 (by omega), pk_in (l * 8 + p) 56 (by omega) ix, nm_r (e' := upd a16 (l * 8 + p) (a9 p)) ?_ (nm_r (nI_1 p) h)⟩
    rw [ix, nI_clamp (by omega), cp, sb_shr0]
  have E2 : ∀ s14 : Nat → Int32, wX_setLine_96 post (nI l) x2 0 fr fc fl fe fh (nI 2) fy fo fn fa fz n (nI (p + 1)) a1 a2 a3 a4 a5 a6 a7 a8 a9 a10 a11 a12 a13 s14 (cw_o a15 l (nI (p + 1)) (x == 0)) (upd a16 (l * 8 + p) (a9 p)) a17 a18 a19 a20 a21 →
      wX_setLine_139 post (wX_setLine_96 post (nI l) x2 0 fr fc fl fe fh (nI 2) fy fo fn fa fz n) (nI l) x2 0 (nI p) (nI (p + 1)) fr fc fl fe fh (nI 2) fy fo fn fa fz a1 a2 a3 a4 a5 a6 a7 a8 a9 a10 a11 a12 a13 s14 a15 a16 a17 a18 a19 a20 a21 := by
    intro s14 h
    refine ⟨pk_in p 8 (by omega), pk_eq x 0 (fun z => E _ _ ?_) (fun z => ⟨pk_in l 7 (by omega), pk_in l 7 (by omega), nm_r (e' := upd a15 l (a15 l ||| nI (p + 1))) (by rw [cl]) (E _ _ ?_)⟩) (by rw [cp, hk])⟩
    · subst z
      exact h
    · have : (x == 0) = false := beq_false_of_ne z
      rw [this] at h
      exact h
  refine pk_le 2 p (fun z => absurd z (by omega)) (fun _ => nm_r (cw_bit p hp) ⟨pk_in p 8 (by omega), pk_eq x 1 (fun z => E2 _ ?_) (fun z => ⟨pk_in l 7 (by omega), pk_in l 7 (by omega), nm_r (e' := upd a14 l (a14 l ||| nI (p + 1))) (by rw [cl]) (E2 _ ?_)⟩) (by rw [cp, hk])⟩)
  · subst z
    exact H
  · have : (x == 1) = false := beq_false_of_ne z
    rw [this] at H
    exact H
theorem cw_mk_a (x y v : Nat) (m : Int32) (h : (1 &&& m = if cw_al x v then 1 else 0) ∧ (2 &&& m = if cw_al y v then 2 else 0)) : cw_mk m x y v := h
theorem cw_mk0 : ∀ x, x < 3 → ∀ y, y < 3 → (1 &&& (if (y == 1) = true then (if (x == 1) = true then (0 : Int32) else 0 ||| nI 1) else (if (x == 1) = true then (0 : Int32) else 0 ||| nI 1) ||| nI 2) = if cw_al x 0 then 1 else 0) ∧ (2 &&& (if (y == 1) = true then (if (x == 1) = true then (0 : Int32) else 0 ||| nI 1) else (if (x == 1) = true then (0 : Int32) else 0 ||| nI 1) ||| nI 2) = if cw_al y 0 then 2 else 0) := by decide +kernel
theorem cw_mk1 : ∀ x, x < 3 → ∀ y, y < 3 → (1 &&& (if (y == 0) = true then (if (x == 0) = true then (0 : Int32) else 0 ||| nI 1) else (if (x == 0) = true then (0 : Int32) else 0 ||| nI 1) ||| nI 2) = if cw_al x 1 then 1 else 0) ∧ (2 &&& (if (y == 0) = true then (if (x == 0) = true then (0 : Int32) else 0 ||| nI 1) else (if (x == 0) = true then (0 : Int32) else 0 ||| nI 1) ||| nI 2) = if cw_al y 1 then 2 else 0) := by decide +kernel
theorem cw_setLine {post : Int32 → St2 → Prop} {l x y : Nat} {fr fc fl fe fh fp fy fo fn fa fz : Int32} {a1 a2 a3 a4 a5 a6 a7 a8 a9 a10 a11 a12 a13 a14 a15 a16 a17 a18 a19 a20 a21 : Nat → Int32} (hl : l < 4) (hx : x < 3) (hy : y < 3) (el : fl = 4) (eh : fh = nI 1) (ep : fp = nI 2) (h4 : a4 0 = 0) (h5 : a5 0 = 1) (h6 : a6 0 = 2) (h7 : a7 0 = 0) (h80 : a8 0 = nI x) (h81 : a8 1 = nI y) (h90 : a9 0 = 2) (h91 : a9 1 = 0)
    (H : ∀ s14 s15, cw_mk (s14 l) x y 0 → cw_mk (s15 l) x y 1 → (∀ j, j ≠ l → s14 j = a14 j) → (∀ j, j ≠ l → s15 j = a15 j) → post 0 (fr, fc, fl, fe, 0, 0, 0, fo, fn, fa, fz, a1, a2, a3, a4, a5, a6, a7, a8, a9, a10, upd a11 l 1, upd a12 l 2, upd a13 l 0, s14, s15, upd (upd a16 (l * 8) 2) (l * 8 + 1) 0, a17, a18, a19, a20, a21)) :
    wpX_setLine post (fr, fc, fl, fe, fh, fp, fy, fo, fn, fa, fz, a1, a2, a3, a4, a5, a6, a7, a8, a9, a10, a11, a12, a13, a14, a15, a16, a17, a18, a19, a20, a21) (nI l) := by
  subst el eh ep
  have cl : (nI l).toNatClampNeg = l := nI_clamp (by omega)
  have c0 : (nI 0).toNatClampNeg = 0 := nI_clamp (by decide)
  refine br_f (nI_pos (by omega)) (br_t (nI_lt (b := 4) hl (by decide)) (br_t (by decide) (nm_r (e' := nI 0) rfl ⟨pk_in 0 6 (by omega), nm_r (e' := 0) (by rw [c0, h4]) ⟨pk_in 0 6 (by omega), pk_in l 7 (by omega), nm_r (e' := upd a11 l 1) (by rw [cl, c0, h5]; rfl) ⟨pk_in 0 6 (by omega), pk_in l 7 (by omega), nm_r (e' := upd a12 l 2) (by rw [cl, c0, h6]; rfl) ⟨pk_in 0 6 (by omega), pk_in l 7 (by omega), nm_r (e' := upd a13 l 0) (by rw [cl, c0, h7]; rfl) ⟨pk_in l 7 (by omega), nm_r (e' := upd a14 l 0) (by rw [cl]) ⟨pk_in l 7 (by omega), nm_r (e' := upd a15 l 0) (by rw [cl]) ⟨3, ?_⟩⟩⟩⟩⟩⟩⟩)))
  refine cw_sl96 (p := 0) hl (by omega) hx rfl h80 (cw_sl96 (p := 1) hl (by omega) hy rfl h81 (pk_le 2 2 (fun _ => ?_) (fun z => absurd z (by omega))))
  rw [h90, h91]
  refine H _ _ ?_ ?_ ?_ ?_
  · rw [cw_o_l, cw_o_l, pk_us]
    exact cw_mk0 x hx y hy
  · rw [cw_o_l, cw_o_l, pk_us]
    exact cw_mk1 x hx y hy
  · intro j hj
    rw [cw_o_n hj, cw_o_n hj, pk_un hj]
  · intro j hj
    rw [cw_o_n hj, cw_o_n hj, pk_un hj]
/-- letter i of the script's digits -/
def cw_q (x : Int32) (i : Nat) : Nat := if ((x >>> ((2 * nI i) &&& 31)) &&& 3).toNatClampNeg = 3 then 2 else ((x >>> ((2 * nI i) &&& 31)) &&& 3).toNatClampNeg
theorem cw_q_e (x : Int32) (i : Nat) : ∃ j, j < 4 ∧ (x >>> ((2 * nI i) &&& 31)) &&& 3 = nI j ∧ cw_q x i = if j = 3 then 2 else j := by
  obtain ⟨j, hj, e⟩ := pk_andE (x >>> ((2 * nI i) &&& 31)) (m := 3) 2 (by decide)
  refine ⟨j, by omega, e, ?_⟩
  unfold cw_q
  rw [e, nI_clamp (by omega)]
theorem cw_q_lt (x : Int32) (i : Nat) : cw_q x i < 3 := by
  obtain ⟨j, hj, -, e⟩ := cw_q_e x i
  rw [e]
  split <;> omega
theorem cw_lt1 {post : Int32 → Prop} {x p1 : Int32} (i : Nat) (hp : p1 = nI i) (H : post (nI (cw_q x i))) : wpL_letter post () x p1 := by
  subst hp
  obtain ⟨j, hj, e, eq⟩ := cw_q_e x i
  rw [eq] at H
  refine nm_r e (pk_eq j 3 (fun z => ?_) (fun z => ?_))
  · rw [if_pos z] at H
    exact H
  · rw [if_neg z] at H
    exact H
/-- the law's loop, one object -/
def cw_LW (post : Int32 → St0 → Prop) (mc ms : Nat) (x0 x1 : Int32) (kc ks n : Nat) (x3 : Int32) (u : St2) : Prop := match u with
  | (fr, fc, fl, fe, fh, fp, fy, fo, fn, fa, fz, a1, a2, a3, a4, a5, a6, a7, a8, a9, a10, a11, a12, a13, a14, a15, a16, a17, a18, a19, a20, a21) => wL_lawOf_12 post mc ms x0 x1 kc ks n x3 fr fc fl fe fh fp fy fo fn fa fz a1 a2 a3 a4 a5 a6 a7 a8 a9 a10 a11 a12 a13 a14 a15 a16 a17 a18 a19 a20 a21
theorem cw_line {post : Int32 → St0 → Prop} {mc ms kc ks n i : Nat} {x0 x1 : Int32} {u : St2} (hi : i < 4) (hA : cw_A (cw_q x0) i u) (H : ∀ u', cw_A (cw_q x0) (i + 1) u' → (match u' with | (fr, fc, fl, fe, fh, fp, fy, fo, fn, fa, fz, a1, a2, a3, a4, a5, a6, a7, a8, a9, a10, a11, a12, a13, a14, a15, a16, a17, a18, a19, a20, a21) => fy = 0) → cw_LW post mc ms x0 x1 kc ks n (nI (i + 1)) u') :
    cw_LW post mc ms x0 x1 kc ks (n + 1) (nI i) u := by
  obtain ⟨fr, fc, fl, fe, fh, fp, fy, fo, fn, fa, fz, a1, a2, a3, a4, a5, a6, a7, a8, a9, a10, a11, a12, a13, a14, a15, a16, a17, a18, a19, a20, a21⟩ := u
  obtain ⟨rfl, rfl, rfl, rfl, rfl, rfl, hG, hL, hZ⟩ := hA
  have i2 : 2 * nI i = nI (2 * i) := pk_mul 2 i
  have i3 : 2 * nI i + 1 = nI (2 * i + 1) := by rw [i2, nI_1]
  refine pk_le 4 i (fun z => absurd z (by omega)) (fun _ => cw_lt1 (2 * i) i2 ?_)
  refine cw_letter (h := 0) (p := 0) (by omega) (by omega) (cw_q_lt _ _) rfl rfl ?_
  refine cw_lt1 (2 * i + 1) i3 ?_
  refine cw_letter (h := 1) (p := 1) (by omega) (by omega) (cw_q_lt _ _) rfl rfl ?_
  refine cw_cat rfl ?_ ?_ ?_ ?_ ?_ ?_
  · rw [pk_un (by decide), pk_us]; rfl
  · rw [pk_us]; rfl
  · rw [pk_us]; rfl
  · rw [pk_un (by decide), pk_us]
  · rw [pk_us]
  refine cw_setLine (x := cw_q x0 (2 * i)) (y := cw_q x0 (2 * i + 1)) hi (cw_q_lt _ _) (cw_q_lt _ _) rfl rfl rfl ?_ ?_ ?_ ?_ ?_ ?_ ?_ ?_ ?_
  · rw [pk_un (by decide), pk_us]; rfl
  · rw [pk_un (by decide), pk_us]; rfl
  · rw [pk_us]
  · rw [pk_us]
  · rw [pk_un (by decide), pk_us]
  · rw [pk_us]
  · rw [pk_us, pk_un (by decide), pk_us]; rfl
  · rw [pk_un (by decide), pk_us]
  intro s14 s15 m0 m1 n0 n1
  refine nm_r (nI_1 i) (H (2, 2, 4, 4, 0, 0, 0, fo, fn, fa, fz, a1, a2, a3, _, _, _, _, _, _, a10, upd a11 i 1, upd a12 i 2, upd a13 i 0, s14, s15, upd (upd a16 (i * 8) 2) (i * 8 + 1) 0, a17, a18, a19, a20, a21) ⟨rfl, rfl, rfl, rfl, rfl, rfl, hG, ?_, ?_⟩ rfl)
  · intro l hl
    by_cases e : l = i
    · subst e
      refine ⟨pk_us, pk_us, pk_us, m0, m1, ?_, ?_⟩
      · rw [pk_un (by omega), pk_us]
      · intro p h1 h2
        by_cases e1 : p = 1
        · subst e1
          exact pk_us
        · rw [pk_un (by omega), pk_un (by omega)]
          exact hZ l hi p (by omega) h2
    · obtain ⟨g1, g2, g3, g4, g5, g6, g7⟩ := hL l (by omega)
      refine ⟨by rw [pk_un e]; exact g1, by rw [pk_un e]; exact g2, by rw [pk_un e]; exact g3, by rw [n0 l e]; exact g4, by rw [n1 l e]; exact g5, ?_, ?_⟩
      · rw [pk_un (by omega), pk_un (by omega)]
        exact g6
      · intro p h1 h2
        rw [pk_un (by omega), pk_un (by omega)]
        exact g7 p h1 h2
  · intro l hl p h1 h2
    rw [pk_un (by omega), pk_un (by omega)]
    exact hZ l hl p h1 h2
end
section
/-! place and enter -/
theorem cw_i1 (x : Int32) : (0 : Int32) &&& x = 0 := Int32.zero_and
theorem cw_place {q : Nat → Nat} {post : Int32 → St2 → Prop} {d r c v : Nat} {fr fc fl fe fh fp fy fo fn fa fz : Int32} {a1 a2 a3 a4 a5 a6 a7 a8 a9 a10 a11 a12 a13 a14 a15 a16 a17 a18 a19 a20 a21 : Nat → Int32} (hd : d = 2 * r + c) (hr : r < 2) (hc : c < 2) (hv : v < 2) (hR : cw_R q (fr, fc, fl, fe, fh, fp, fy, fo, fn, fa, fz, a1, a2, a3, a4, a5, a6, a7, a8, a9, a10, a11, a12, a13, a14, a15, a16, a17, a18, a19, a20, a21)) (h20 : c = 1 → a20 (d - 1) = 1) (h21 : r = 1 → a21 (d - 2) = 1)
    (H0 : (cw_al (q d) v && cw_al (q (2 * (2 + c) + r)) v) = false → post 0 (fr, fc, fl, fe, fh, fp, fy, fo, fn, fa, fz, a1, a2, a3, a4, a5, a6, a7, a8, a9, a10, a11, a12, a13, a14, a15, a16, a17, a18, a19, a20, a21))
    (H1 : (cw_al (q d) v && cw_al (q (2 * (2 + c) + r)) v) = true → post 1 (fr, fc, fl, fe, fh, fp, fy, fo, fn, fa, fz, a1, a2, a3, a4, a5, a6, a7, a8, a9, a10, a11, a12, a13, a14, a15, a16, a17, upd a18 d (nI v), a19, upd a20 d (nI (c + 1)), upd a21 d (nI (r + 1)))) :
    wpX_place post (fr, fc, fl, fe, fh, fp, fy, fo, fn, fa, fz, a1, a2, a3, a4, a5, a6, a7, a8, a9, a10, a11, a12, a13, a14, a15, a16, a17, a18, a19, a20, a21) (nI d) (nI v) := by
  obtain ⟨hA, -, hB⟩ := hR
  have hA' := hA
  obtain ⟨rfl, rfl, rfl, rfl, -, -, hG, -, -⟩ := hA'
  have cd : (nI d).toNatClampNeg = d := nI_clamp (by omega)
  obtain ⟨g1, g2, g3⟩ := hG r hr c hc
  rw [← hd] at g1 g2 g3
  have S2 : ∀ x6 x7 : Int32, x6 = nI (c + 1) → x7 = (if r = 0 then 256 else 1) → cw_al (q d) v = true → wX_place_114 post (nI d) (nI v) (nI r) (nI c) x6 x7 2 2 4 4 fh fp fy fo fn fa fz a1 a2 a3 a4 a5 a6 a7 a8 a9 a10 a11 a12 a13 a14 a15 a16 a17 a18 a19 a20 a21 := by
    intro x6 x7 e6 e7 ha
    subst e6
    have lx : 2 + nI c = nI (2 + c) := nI_add 2 c
    have ix : (2 + nI c) * 5 + nI r + 1 = nI ((2 + c) * 5 + (r + 1)) := by
      rw [lx, show (5 : Int32) = nI 5 from rfl, pk_mul, nI_add, nI_1, Nat.add_assoc]
    refine cw_step (l := 2 + c) (c := r) (by omega) hr hv hA lx e7 ⟨pk_in ((2 + c) * 5 + (r + 1)) 35 (by omega) ix, ?_⟩
    have hb : a17 ((2 + nI c) * 5 + nI r + 1).toNatClampNeg = nI (r + 1) := by
      rw [ix, nI_clamp (by omega)]
      exact hB (2 + c) (by omega) r hr
    rw [hb]
    cases hz : cw_al (q (2 * (2 + c) + r)) v
    · refine nm_r (e' := 0) (by rw [if_neg (by decide)]; exact cw_i1 _) (br_t rfl (H0 ?_))
      rw [hz, Bool.and_false]
    · refine nm_r (e' := nI (r + 1)) (by rw [if_pos rfl]; exact Int32.and_self) (br_f (nI_ne0 (by omega) (by omega)) ⟨pk_in d 12 (by omega), nm_r (congrArg (fun k => upd a18 k (nI v)) cd) ⟨pk_in d 12 (by omega), nm_r (congrArg (fun k => upd a20 k (nI (c + 1))) cd) ⟨pk_in d 12 (by omega), nm_r (congrArg (fun k => upd a21 k (nI (r + 1))) cd) (H1 ?_)⟩⟩⟩)
      rw [hz, ha]
      rfl
  have S1 : ∀ x5 : Int32, x5 = (if c = 0 then 256 else 1) → wX_place_57 post (nI d) (nI v) (nI r) (nI c) x5 2 2 4 4 fh fp fy fo fn fa fz a1 a2 a3 a4 a5 a6 a7 a8 a9 a10 a11 a12 a13 a14 a15 a16 a17 a18 a19 a20 a21 := by
    intro x5 e5
    have ix : nI r * 5 + nI c + 1 = nI (r * 5 + (c + 1)) := by
      rw [show (5 : Int32) = nI 5 from rfl, pk_mul, nI_add, nI_1, Nat.add_assoc]
    refine cw_step (l := r) (c := c) (by omega) hc hv hA rfl e5 ⟨pk_in (r * 5 + (c + 1)) 35 (by omega) ix, ?_⟩
    have hb : a17 (nI r * 5 + nI c + 1).toNatClampNeg = nI (c + 1) := by
      rw [ix, nI_clamp (by omega)]
      exact hB r (by omega) c hc
    rw [hb, ← hd]
    cases hz : cw_al (q d) v
    · refine nm_r (e' := 0) (by rw [if_neg (by decide)]; exact cw_i1 _) (br_t rfl (H0 ?_))
      rw [hz, Bool.false_and]
    · refine nm_r (e' := nI (c + 1)) (by rw [if_pos rfl]; exact Int32.and_self) (br_f (nI_ne0 (by omega) (by omega)) (pk_le r 0 (fun z => S2 _ _ rfl (by rw [if_pos (by omega)]) hz) (fun z => ?_)))
      have ex : nI d - 2 = nI (d - 2) := pk_sub (a := d) (b := 2) (by omega)
      refine ⟨pk_in (d - 2) 12 (by omega) ex, nm_r (e' := 1) (by rw [ex, nI_clamp (by omega)]; exact h21 (by omega)) (S2 _ _ rfl (by rw [if_neg (by omega)]) hz)⟩
  refine ⟨pk_in d 12 (by omega), br_t (by rw [cd, g3]) ⟨pk_in d 12 (by omega), nm_r (e' := nI r) (by rw [cd, g1]) ⟨pk_in d 12 (by omega), nm_r (e' := nI c) (by rw [cd, g2]) (pk_le c 0 (fun z => S1 _ (by rw [if_pos (by omega)])) (fun z => ?_))⟩⟩⟩
  have ex : nI d - 1 = nI (d - 1) := pk_sub (a := d) (b := 1) (by omega)
  exact ⟨pk_in (d - 1) 12 (by omega) ex, nm_r (e' := 1) (by rw [ex, nI_clamp (by omega)]; exact h20 (by omega)) (S1 _ (by rw [if_neg (by omega)]))⟩
theorem cw_enter {post : Int32 → St2 → Prop} {x1 x2 : Int32} {st N : Nat} {lt : Nat → Bool} {s : List Nat} {fr fc fl fe fh fp fy fo fn fa fz : Int32} {a1 a2 a3 a4 a5 a6 a7 a8 a9 a10 a11 a12 a13 a14 a15 a16 a17 a18 a19 a20 a21 : Nat → Int32} (he : fe = 4) (hF : cw_F a18 4 = nI N) (hN : N < 16) (hx1 : x1 = nI st) (hst : st < 2 ^ 31) (hlt : ∀ n, n < 16 → (nI n < x2 ↔ lt n = true)) (e1 : fo = nI s.length) (e2 : fn = cw_num s) (e3 : fa = nI (cw_all s)) (e4 : fz = nI (cw_any s)) (hs : s.length + 1 < 2 ^ 31)
    (H : post (if (cw_en st lt (false, s) N).1 then 1 else 0) (fr, fc, fl, fe, fh, fp, fy, nI (cw_en st lt (false, s) N).2.length, cw_num (cw_en st lt (false, s) N).2, nI (cw_all (cw_en st lt (false, s) N).2), nI (cw_any (cw_en st lt (false, s) N).2), a1, a2, a3, a4, a5, a6, a7, a8, a9, a10, a11, a12, a13, a14, a15, a16, a17, a18, a19, a20, a21)) :
    wpX_enter post (fr, fc, fl, fe, fh, fp, fy, fo, fn, fa, fz, a1, a2, a3, a4, a5, a6, a7, a8, a9, a10, a11, a12, a13, a14, a15, a16, a17, a18, a19, a20, a21) x1 x2 := by
  subst he hx1 e1 e2 e3 e4
  refine pk_loop (σ := Unit) (fun n i _ => wX_enter_5 post (nI st) x2 fr fc fl 4 fh fp fy (nI s.length) (cw_num s) (nI (cw_all s)) (nI (cw_any s)) a1 a2 a3 a4 a5 a6 a7 a8 a9 a10 a11 a12 a13 a14 a15 a16 a17 a18 a19 a20 a21 n (cw_F a18 i) (nI i)) (fun _ _ => True) 4 0 () (by omega) trivial (fun n _ _ => ?_) (fun n i _ hi _ hw => ?_)
  · refine pk_le 4 4 (fun _ => ?_) (fun z => absurd z (by omega))
    rw [hF]
    have hl := hlt N hN
    cases hz : lt N
    · have e : cw_en st lt (false, s) N = (true, s) := by
        simp only [cw_en, hz, Bool.false_eq_true, if_false]
      rw [e] at H
      exact br_f (fun z => by rw [hl, hz] at z; exact absurd z (by decide)) H
    · have e : cw_en st lt (false, s) N = (decide (s.length + 1 = st), N :: s) := by
        simp only [cw_en, hz, Bool.false_eq_true, if_false, if_true]
      rw [e] at H
      refine br_t (hl.mpr hz) (nm_r (cw_and (cw_all s) N) (nm_r (cw_or (cw_any s) N) (nm_r (nI_1 s.length) (pk_eq (s.length + 1) st (fun z => ?_) (fun z => ?_)))))
      · rw [show decide (s.length + 1 = st) = true from decide_eq_true z] at H
        exact H
      · rw [show decide (s.length + 1 = st) = false from decide_eq_false z] at H
        exact H
  · refine pk_le 4 i (fun z => absurd z (by omega)) (fun _ => ⟨pk_in i 12 (by omega), nm_r (e' := cw_F a18 (i + 1)) (by rw [nI_clamp (by omega)]; rfl) (nm_r (nI_1 i) (hw () trivial))⟩)
end
section
/-! the search -/
def cw_W (post : St2 → Prop) (x1 x2 : Int32) (n : Nat) (x3 x4 x5 : Int32) (u : St2) : Prop := match u with
  | (fr, fc, fl, fe, fh, fp, fy, fo, fn, fa, fz, a1, a2, a3, a4, a5, a6, a7, a8, a9, a10, a11, a12, a13, a14, a15, a16, a17, a18, a19, a20, a21) => wX_scan_49 post x1 x2 n x3 x4 x5 fr fc fl fe fh fp fy fo fn fa fz a1 a2 a3 a4 a5 a6 a7 a8 a9 a10 a11 a12 a13 a14 a15 a16 a17 a18 a19 a20 a21
/-- the account so far -/
def cw_E (q : Nat → Nat) (s : List Nat) (u : St2) : Prop := match u with
  | (fr, fc, fl, fe, fh, fp, fy, fo, fn, fa, fz, a1, a2, a3, a4, a5, a6, a7, a8, a9, a10, a11, a12, a13, a14, a15, a16, a17, a18, a19, a20, a21) => cw_R q (fr, fc, fl, fe, fh, fp, fy, fo, fn, fa, fz, a1, a2, a3, a4, a5, a6, a7, a8, a9, a10, a11, a12, a13, a14, a15, a16, a17, a18, a19, a20, a21) ∧ fo = nI s.length ∧ fn = cw_num s ∧ fa = nI (cw_all s) ∧ fz = nI (cw_any s)
/-- the cells ahead of d stand -/
def cw_S (q : Nat → Nat) (t dg : Nat → Int32) (d : Nat) (s : List Nat) (u : St2) : Prop := cw_E q s u ∧ match u with
  | (fr, fc, fl, fe, fh, fp, fy, fo, fn, fa, fz, a1, a2, a3, a4, a5, a6, a7, a8, a9, a10, a11, a12, a13, a14, a15, a16, a17, a18, a19, a20, a21) => ∀ j, j < d → a18 j = dg j ∧ a19 j = t j ∧ a20 j = nI (j % 2 + 1) ∧ a21 j = nI (j / 2 + 1)
def cw_tr (u : St2) : Nat → Int32 := match u with
  | (fr, fc, fl, fe, fh, fp, fy, fo, fn, fa, fz, a1, a2, a3, a4, a5, a6, a7, a8, a9, a10, a11, a12, a13, a14, a15, a16, a17, a18, a19, a20, a21) => a19
theorem cw_S_d {q : Nat → Nat} {t dg : Nat → Int32} {d : Nat} {s : List Nat} {u : St2} {x y : Int32} (h : cw_S q (upd t d x) (upd dg d y) (d + 1) s u) : cw_S q t dg d s u ∧ cw_tr u d = x := by
  obtain ⟨fr, fc, fl, fe, fh, fp, fy, fo, fn, fa, fz, a1, a2, a3, a4, a5, a6, a7, a8, a9, a10, a11, a12, a13, a14, a15, a16, a17, a18, a19, a20, a21⟩ := u
  obtain ⟨h1, h2⟩ := h
  refine ⟨⟨h1, fun j hj => ?_⟩, ?_⟩
  · obtain ⟨g1, g2, g3, g4⟩ := h2 j (by omega)
    rw [pk_un (by omega)] at g1 g2
    exact ⟨g1, g2, g3, g4⟩
  · obtain ⟨-, g2, -, -⟩ := h2 d (by omega)
    rw [pk_us] at g2
    exact g2
theorem cw_over {post : St2 → Prop} {x1 x2 : Int32} {n d r : Nat} {u : St2} (hd : d < 4) (hr : r < 1000) (H : post u) : cw_W post x1 x2 (n + 1) (nI d) 1 (nI r) u := by
  obtain ⟨fr, fc, fl, fe, fh, fp, fy, fo, fn, fa, fz, a1, a2, a3, a4, a5, a6, a7, a8, a9, a10, a11, a12, a13, a14, a15, a16, a17, a18, a19, a20, a21⟩ := u
  exact pk_le 20000 r (fun z => absurd z (by omega)) (fun _ => br_f (nI_pos (by omega)) (br_f (by decide) H))
theorem cw_end {post : St2 → Prop} {x1 x2 x4 : Int32} {n r : Nat} {u : St2} (hr : r < 1000) (H : post u) : cw_W post x1 x2 (n + 1) (nI 0 + (-1)) x4 (nI r) u := by
  obtain ⟨fr, fc, fl, fe, fh, fp, fy, fo, fn, fa, fz, a1, a2, a3, a4, a5, a6, a7, a8, a9, a10, a11, a12, a13, a14, a15, a16, a17, a18, a19, a20, a21⟩ := u
  exact pk_le 20000 r (fun z => absurd z (by omega)) (fun _ => br_t (by decide) H)
theorem cw_back {post : St2 → Prop} {x1 x2 : Int32} {n d r : Nat} {u : St2} (hd : d < 4) (hr : r < 1000) (ht : cw_tr u d = nI 2) (H : cw_W post x1 x2 n (nI d + (-1)) 0 (nI (r + 1)) u) : cw_W post x1 x2 (n + 1) (nI d) 0 (nI r) u := by
  obtain ⟨fr, fc, fl, fe, fh, fp, fy, fo, fn, fa, fz, a1, a2, a3, a4, a5, a6, a7, a8, a9, a10, a11, a12, a13, a14, a15, a16, a17, a18, a19, a20, a21⟩ := u
  exact pk_le 20000 r (fun z => absurd z (by omega)) (fun _ => br_f (nI_pos (by omega)) (br_t rfl ⟨pk_in d 12 (by omega), nm_r (e' := nI 2) (by rw [nI_clamp (by omega)]; exact ht) (br_t rfl (nm_e (nm_r (nI_1 r) H)))⟩))
theorem cw_one {q : Nat → Nat} {post : St2 → Prop} {x1 x2 : Int32} {st d n r v pre : Nat} {lt : Nat → Bool} {t dg : Nat → Int32} {s : List Nat} {u : St2} (hq : ∀ i, q i < 3) (hd : d < 4) (hv : v < 2) (hr : r < 1000) (hs : s.length < 1000) (hst : st ≤ 4096) (hx1 : x1 = nI st) (hlt : ∀ n, n < 16 → (nI n < x2 ↔ lt n = true)) (hF : cw_F dg d = nI pre) (hp : pre < 2 ^ d) (hS : cw_S q t dg d s u) (ht : cw_tr u d = nI v)
    (H0 : cw_al (cw_wq q d) v = false → ∀ u', cw_S q t dg d s u' → cw_tr u' d = nI (v + 1) → cw_W post x1 x2 n (nI d) 0 (nI (r + 1)) u')
    (H1 : cw_al (cw_wq q d) v = true → d < 3 → ∀ u', cw_S q (upd t d (nI (v + 1))) (upd dg d (nI v)) (d + 1) s u' → cw_tr u' (d + 1) = 0 → cw_W post x1 x2 n (nI (d + 1)) 0 (nI (r + 1)) u')
    (H2 : cw_al (cw_wq q d) v = true → d = 3 → ∀ u', cw_S q t dg d (cw_en st lt (false, s) (2 * pre + v)).2 u' → cw_tr u' d = nI (v + 1) → cw_W post x1 x2 n (nI d) (if (cw_en st lt (false, s) (2 * pre + v)).1 then 1 else 0) (nI (r + 1)) u') :
    cw_W post x1 x2 (n + 1) (nI d) 0 (nI r) u := by
  obtain ⟨fr, fc, fl, fe, fh, fp, fy, fo, fn, fa, fz, a1, a2, a3, a4, a5, a6, a7, a8, a9, a10, a11, a12, a13, a14, a15, a16, a17, a18, a19, a20, a21⟩ := u
  obtain ⟨⟨hR, e1, e2, e3, e4⟩, hP⟩ := hS
  have hA' := hR.1
  obtain ⟨rfl, rfl, rfl, rfl, -⟩ := hA'
  have cd : (nI d).toNatClampNeg = d := nI_clamp (by omega)
  have hw : cw_al (cw_wq q d) v = (cw_al (q d) v && cw_al (q (2 * (2 + d % 2) + d / 2)) v) := by
    unfold cw_wq cw_i2
    rw [cw_al_mt _ (hq _) _ (hq _) v hv, show 4 + 2 * (d % 2) + d / 2 = 2 * (2 + d % 2) + d / 2 by omega]
  rw [hw] at H0 H1 H2
  refine pk_le 20000 r (fun z => absurd z (by omega)) (fun _ => br_f (nI_pos (by omega)) (br_t rfl ⟨pk_in d 12 (by omega), nm_r (e' := nI v) (by rw [cd]; exact ht) (pk_eq v 2 (fun z => absurd z (by omega)) (fun _ => ⟨pk_in d 12 (by omega), nm_r (e' := upd a19 d (nI (v + 1))) (by rw [cd, nI_1]) ?_⟩))⟩))
  refine cw_place (q := q) (r := d / 2) (c := d % 2) (by omega) (by omega) (by omega) hv (cw_R_c hR) ?_ ?_ (fun z => ?_) (fun z => ?_)
  · intro z
    rw [(hP (d - 1) (by omega)).2.2.1, show (d - 1) % 2 + 1 = 1 by omega]
    rfl
  · intro z
    rw [(hP (d - 2) (by omega)).2.2.2, show (d - 2) / 2 + 1 = 1 by omega]
    rfl
  · refine br_t rfl (br_t rfl (nm_r (nI_1 r) (H0 z (2, 2, 4, 4, fh, fp, fy, fo, fn, fa, fz, a1, a2, a3, a4, a5, a6, a7, a8, a9, a10, a11, a12, a13, a14, a15, a16, a17, a18, upd a19 d (nI (v + 1)), a20, a21) ⟨⟨cw_R_c hR, e1, e2, e3, e4⟩, fun j hj => ?_⟩ pk_us)))
    obtain ⟨g1, g2, g3, g4⟩ := hP j hj
    exact ⟨g1, by rw [pk_un (by omega)]; exact g2, g3, g4⟩
  · refine br_f (by decide) (pk_eq d 3 (fun z3 => ?_) (fun z3 => ?_))
    · refine cw_enter (st := st) (N := 2 * pre + v) (lt := lt) (s := s) rfl ?_ ?_ hx1 (by omega) hlt e1 e2 e3 e4 (by omega) (nm_r (nI_1 r) (H2 z z3 (2, 2, 4, 4, fh, fp, fy, _, _, _, _, a1, a2, a3, a4, a5, a6, a7, a8, a9, a10, a11, a12, a13, a14, a15, a16, a17, upd a18 d (nI v), upd a19 d (nI (v + 1)), _, _) ⟨⟨cw_R_c hR, rfl, rfl, rfl, rfl⟩, fun j hj => ?_⟩ pk_us))
      · subst z3
        refine cw_F_s ?_ pk_us
        rw [cw_F_c _ dg 3 (fun j hj => by rw [pk_un (by omega)]; exact (hP j hj).1)]
        exact hF
      · subst z3
        omega
      · obtain ⟨g1, g2, g3, g4⟩ := hP j hj
        exact ⟨by rw [pk_un (by omega)]; exact g1, by rw [pk_un (by omega)]; exact g2, by rw [pk_un (by omega)]; exact g3, by rw [pk_un (by omega)]; exact g4⟩
    · refine br_f (by decide) (nm_r (nI_1 d) ⟨pk_in (d + 1) 12 (by omega), nm_r (e' := upd (upd a19 d (nI (v + 1))) (d + 1) 0) (by rw [nI_clamp (by omega)]) (nm_r (nI_1 r) (H1 z (by omega) (2, 2, 4, 4, fh, fp, fy, fo, fn, fa, fz, a1, a2, a3, a4, a5, a6, a7, a8, a9, a10, a11, a12, a13, a14, a15, a16, a17, upd a18 d (nI v), upd (upd a19 d (nI (v + 1))) (d + 1) 0, upd a20 d (nI (d % 2 + 1)), upd a21 d (nI (d / 2 + 1))) ⟨⟨cw_R_c hR, e1, e2, e3, e4⟩, fun j hj => ?_⟩ pk_us))⟩)
      by_cases e : j = d
      · subst e
        refine ⟨?_, ?_, pk_us, pk_us⟩
        · rw [pk_us, pk_us]
        · rw [pk_un (by omega), pk_us, pk_us]
      · obtain ⟨g1, g2, g3, g4⟩ := hP j (by omega)
        refine ⟨?_, ?_, ?_, ?_⟩
        · rw [pk_un e, pk_un e]; exact g1
        · rw [pk_un (by omega), pk_un e, pk_un e]; exact g2
        · rw [pk_un e]; exact g3
        · rw [pk_un e]; exact g4
def cw_co : Nat → Nat
  | 0 => 0
  | m + 1 => 3 + 2 * cw_co m
/-- from cell d on, m cells behind it -/
def cw_X (q : Nat → Nat) (post : St2 → Prop) (x1 x2 : Int32) (st : Nat) (lt : Nat → Bool) (T : Bool × List Nat) (m d : Nat) : Prop :=
  ∀ (t dg : Nat → Int32) (pre : Nat) (s rest : List Nat) (n r : Nat) (u : St2), cw_F dg d = nI pre → pre < 2 ^ d → s.length ≤ r → r + n ≤ 900 → cw_co (m + 1) + 1 ≤ n →
    (cw_sl (cw_wq q) (m + 1) d pre ++ rest).foldl (cw_en st lt) (false, s) = T → cw_S q t dg d s u → cw_tr u d = nI 0 →
    (∀ (n' r' : Nat) (s' : List Nat) (u' : St2), n ≤ n' + cw_co (m + 1) → r' + n' ≤ 900 → s'.length ≤ r' → rest.foldl (cw_en st lt) (false, s') = T → cw_S q t dg d s' u' → cw_W post x1 x2 n' (nI d + (-1)) 0 (nI r') u') →
    cw_W post x1 x2 n (nI d) 0 (nI r) u
theorem cw_en_len (st : Nat) (lt : Nat → Bool) (s : List Nat) (N : Nat) : (cw_en st lt (false, s) N).2.length ≤ s.length + 1 := by
  simp only [cw_en, Bool.false_eq_true, if_false]
  cases lt N
  · exact Nat.le_succ _
  · exact Nat.le_refl _
theorem cw_stage {q : Nat → Nat} {post : St2 → Prop} {x1 x2 : Int32} {st : Nat} {lt : Nat → Bool} {T : Bool × List Nat} (hq : ∀ i, q i < 3) (hst : st ≤ 4096) (hx1 : x1 = nI st) (hlt : ∀ n, n < 16 → (nI n < x2 ↔ lt n = true)) (hpost : ∀ u, cw_E q T.2 u → post u)
    {m d : Nat} (hm : d + m = 3) (IH : ∀ m', m = m' + 1 → cw_X q post x1 x2 st lt T m' (d + 1)) {v : Nat} (hv : v < 2) (t dg : Nat → Int32) (pre : Nat) (s rest : List Nat) (n r : Nat) (u : St2) (hF : cw_F dg d = nI pre) (hp : pre < 2 ^ d) (hs : s.length ≤ r) (hr : r + n ≤ 900) (hn : cw_co m + 2 ≤ n)
    (hT : ((if cw_al (cw_wq q d) v then cw_sl (cw_wq q) m (d + 1) (2 * pre + v) else []) ++ rest).foldl (cw_en st lt) (false, s) = T) (hS : cw_S q t dg d s u) (ht : cw_tr u d = nI v)
    (K : ∀ (n' r' : Nat) (s' : List Nat) (u' : St2), n ≤ n' + cw_co m + 1 → r' + n' ≤ 900 → s'.length ≤ r' → rest.foldl (cw_en st lt) (false, s') = T → cw_S q t dg d s' u' → cw_tr u' d = nI (v + 1) → cw_W post x1 x2 n' (nI d) 0 (nI r') u') :
    cw_W post x1 x2 n (nI d) 0 (nI r) u := by
  obtain ⟨n, rfl⟩ : ∃ k, n = k + 1 := ⟨n - 1, by omega⟩
  refine cw_one hq (by omega) hv (by omega) (by omega) hst hx1 hlt hF hp hS ht (fun z u' hS' ht' => ?_) (fun z hd u' hS' ht' => ?_) (fun z hd u' hS' ht' => ?_)
  · rw [z] at hT
    exact K n (r + 1) s u' (by omega) (by omega) (by omega) hT hS' ht'
  · rw [z, if_pos rfl] at hT
    obtain ⟨m', rfl⟩ : ∃ k, m = k + 1 := ⟨m - 1, by omega⟩
    refine IH m' rfl (upd t d (nI (v + 1))) (upd dg d (nI v)) (2 * pre + v) s rest n (r + 1) u' ?_ ?_ (by omega) (by omega) (by omega) hT hS' ht' (fun n' r' s' u'' h1 h2 h3 h4 h5 => ?_)
    · refine cw_F_s ?_ pk_us
      rw [cw_F_c _ dg d (fun j hj => pk_un (by omega))]
      exact hF
    · rw [Nat.pow_succ]
      omega
    · obtain ⟨g1, g2⟩ := cw_S_d h5
      have e : nI (d + 1) + (-1) = nI d := pk_m1 d
      rw [e]
      exact K n' r' s' u'' (by omega) h2 h3 h4 g1 g2
  · rw [z, if_pos rfl] at hT
    have hm0 : m = 0 := by omega
    subst hm0
    have hT' : rest.foldl (cw_en st lt) (cw_en st lt (false, s) (2 * pre + v)) = T := hT
    have hl := cw_en_len st lt s (2 * pre + v)
    cases ho : (cw_en st lt (false, s) (2 * pre + v)).1
    · have ee : cw_en st lt (false, s) (2 * pre + v) = (false, (cw_en st lt (false, s) (2 * pre + v)).2) := Prod.ext ho rfl
      rw [ee] at hT'
      exact K n (r + 1) _ u' (by omega) (by omega) (by omega) hT' hS' ht'
    · rw [cw_fe_over st lt rest _ ho] at hT'
      obtain ⟨k, rfl⟩ : ∃ k, n = k + 1 := ⟨n - 1, by omega⟩
      refine cw_over (by omega) (by omega) (hpost u' ?_)
      rw [← hT']
      exact hS'.1
theorem cw_ex {q : Nat → Nat} {post : St2 → Prop} {x1 x2 : Int32} {st : Nat} {lt : Nat → Bool} {T : Bool × List Nat} (hq : ∀ i, q i < 3) (hst : st ≤ 4096) (hx1 : x1 = nI st) (hlt : ∀ n, n < 16 → (nI n < x2 ↔ lt n = true)) (hpost : ∀ u, cw_E q T.2 u → post u) :
    ∀ m d, d + m = 3 → cw_X q post x1 x2 st lt T m d := by
  intro m
  induction m with
  | zero =>
    intro d hm t dg pre s rest n r u hF hp hs hr hn hT hS ht K
    have hc : cw_co (0 + 1) = 3 := rfl
    have hc0 : cw_co 0 = 0 := rfl
    have hT2 : ((if cw_al (cw_wq q d) 0 then cw_sl (cw_wq q) 0 (d + 1) (2 * pre + 0) else []) ++ ((if cw_al (cw_wq q d) 1 then cw_sl (cw_wq q) 0 (d + 1) (2 * pre + 1) else []) ++ rest)).foldl (cw_en st lt) (false, s) = T := by
      rw [← List.append_assoc]
      exact hT
    refine cw_stage hq hst hx1 hlt hpost hm (fun m' z => absurd z (by omega)) (v := 0) (by omega) t dg pre s _ n r u hF hp hs hr (by omega) hT2 hS ht (fun n1 r1 s1 u1 g1 g2 g3 g4 g5 g6 => ?_)
    refine cw_stage hq hst hx1 hlt hpost hm (fun m' z => absurd z (by omega)) (v := 1) (by omega) t dg pre s1 _ n1 r1 u1 hF hp g3 g2 (by omega) g4 g5 g6 (fun n2 r2 s2 u2 k1 k2 k3 k4 k5 k6 => ?_)
    obtain ⟨n3, rfl⟩ : ∃ k, n2 = k + 1 := ⟨n2 - 1, by omega⟩
    exact cw_back (by omega) (by omega) k6 (K n3 (r2 + 1) s2 u2 (by omega) (by omega) (by omega) k4 k5)
  | succ m ih =>
    intro d hm t dg pre s rest n r u hF hp hs hr hn hT hS ht K
    have hc : cw_co (m + 1 + 1) = 3 + 2 * cw_co (m + 1) := rfl
    have hT2 : ((if cw_al (cw_wq q d) 0 then cw_sl (cw_wq q) (m + 1) (d + 1) (2 * pre + 0) else []) ++ ((if cw_al (cw_wq q d) 1 then cw_sl (cw_wq q) (m + 1) (d + 1) (2 * pre + 1) else []) ++ rest)).foldl (cw_en st lt) (false, s) = T := by
      rw [← List.append_assoc]
      exact hT
    have IH : ∀ m', m + 1 = m' + 1 → cw_X q post x1 x2 st lt T m' (d + 1) := by
      intro m' z
      have : m' = m := by omega
      subst this
      exact ih (d + 1) (by omega)
    refine cw_stage hq hst hx1 hlt hpost hm IH (v := 0) (by omega) t dg pre s _ n r u hF hp hs hr (by omega) hT2 hS ht (fun n1 r1 s1 u1 g1 g2 g3 g4 g5 g6 => ?_)
    refine cw_stage hq hst hx1 hlt hpost hm IH (v := 1) (by omega) t dg pre s1 _ n1 r1 u1 hF hp g3 g2 (by omega) g4 g5 g6 (fun n2 r2 s2 u2 k1 k2 k3 k4 k5 k6 => ?_)
    obtain ⟨n3, rfl⟩ : ∃ k, n2 = k + 1 := ⟨n2 - 1, by omega⟩
    exact cw_back (by omega) (by omega) k6 (K n3 (r2 + 1) s2 u2 (by omega) (by omega) (by omega) k4 k5)
theorem cw_scan {q : Nat → Nat} {post : St2 → Prop} {x1 x2 : Int32} {st : Nat} {lt : Nat → Bool} {u : St2} (hq : ∀ i, q i < 3) (hQ : cw_Q q u) (h0 : 0 < st) (hst : st ≤ 4096) (hx1 : x1 = nI st) (hlt : ∀ n, n < 16 → (nI n < x2 ↔ lt n = true))
    (H : ∀ u', cw_E q ((cw_sl (cw_wq q) 4 0 0).foldl (cw_en st lt) (false, [])).2 u' → post u') : wpX_scan post u x1 x2 := by
  obtain ⟨fr, fc, fl, fe, fh, fp, fy, fo, fn, fa, fz, a1, a2, a3, a4, a5, a6, a7, a8, a9, a10, a11, a12, a13, a14, a15, a16, a17, a18, a19, a20, a21⟩ := u
  unfold wpX_scan
  refine cw_prep hq hQ (fun u' hR => ?_)
  clear hQ
  obtain ⟨gr, gc, gl, ge, gh, gp, gy, go, gn, ga, gz, b1, b2, b3, b4, b5, b6, b7, b8, b9, b10, b11, b12, b13, b14, b15, b16, b17, b18, b19, b20, b21⟩ := u'
  refine nm_e (br_t (by rw [hx1]; exact nI_lt (a := 0) h0 (by omega)) ⟨100, ?_⟩)
  have X := cw_ex (post := post) (T := (cw_sl (cw_wq q) 4 0 0).foldl (cw_en st lt) (false, [])) hq hst hx1 hlt H 3 0 rfl (fun _ => 0) (fun _ => 0) 0 [] [] 100 0 (gr, gc, gl, ge, gh, gp, gy, 0, -1, 4095, 0, b1, b2, b3, b4, b5, b6, b7, b8, b9, b10, b11, b12, b13, b14, b15, b16, b17, b18, upd b19 0 0, b20, b21)
  refine X rfl (by decide) (by decide) (by decide) (by decide) (by rw [List.append_nil]) ⟨⟨cw_R_c hR, rfl, rfl, rfl, rfl⟩, fun j hj => absurd hj (by omega)⟩ pk_us (fun n' r' s' u' h1 h2 h3 h4 h5 => ?_)
  have hco : cw_co (3 + 1) = 45 := rfl
  obtain ⟨k, rfl⟩ : ∃ k, n' = k + 1 := ⟨n' - 1, by omega⟩
  refine cw_end (by omega) (H u' ?_)
  rw [← h4]
  exact h5.1
end
section
/-! the questions -/
theorem cw_lt4096 : ∀ n, n < 16 → (nI n < (4096 : Int32) ↔ cw_tt n = true) := fun n hn => ⟨fun _ => rfl, fun _ => nI_lt (b := 4096) (by omega) (by decide)⟩
theorem cw_fillings {q : Nat → Nat} {a b c d : Nat} {post : Int32 → St2 → Prop} {u : St2} (hq : ∀ i, q i < 3) (hL : cw_sl (cw_wq q) 4 0 0 = cw_L a b c d) (hQ : cw_Q q u) (H : ∀ u', cw_R q u' → post (nI (cw_T a b c d 4096 cw_tt).length) u') : wpX_fillings post u := by
  obtain ⟨fr, fc, fl, fe, fh, fp, fy, fo, fn, fa, fz, a1, a2, a3, a4, a5, a6, a7, a8, a9, a10, a11, a12, a13, a14, a15, a16, a17, a18, a19, a20, a21⟩ := u
  unfold wpX_fillings
  refine cw_scan (st := 4096) (lt := cw_tt) hq hQ (by decide) (by decide) rfl cw_lt4096 (fun u' hE => ?_)
  clear hQ
  obtain ⟨fr, fc, fl, fe, fh, fp, fy, fo, fn, fa, fz, a1, a2, a3, a4, a5, a6, a7, a8, a9, a10, a11, a12, a13, a14, a15, a16, a17, a18, a19, a20, a21⟩ := u'
  obtain ⟨hR, e1, -⟩ := hE
  rw [hL] at e1
  have h := H _ hR
  unfold cw_T at h
  rw [← e1] at h
  exact h
theorem cw_below {q : Nat → Nat} {a b c d : Nat} {post : Int32 → St2 → Prop} {u : St2} {x2 : Int32} {lt : Nat → Bool} (hq : ∀ i, q i < 3) (hL : cw_sl (cw_wq q) 4 0 0 = cw_L a b c d) (hQ : cw_Q q u) (hlt : ∀ n, n < 16 → (nI n < x2 ↔ lt n = true)) (H : ∀ u', cw_R q u' → post (nI (cw_T a b c d 4096 lt).length) u') : wpX_below post u x2 := by
  obtain ⟨fr, fc, fl, fe, fh, fp, fy, fo, fn, fa, fz, a1, a2, a3, a4, a5, a6, a7, a8, a9, a10, a11, a12, a13, a14, a15, a16, a17, a18, a19, a20, a21⟩ := u
  unfold wpX_below
  refine cw_scan (st := 4096) (lt := lt) hq hQ (by decide) (by decide) rfl hlt (fun u' hE => ?_)
  clear hQ
  obtain ⟨fr, fc, fl, fe, fh, fp, fy, fo, fn, fa, fz, a1, a2, a3, a4, a5, a6, a7, a8, a9, a10, a11, a12, a13, a14, a15, a16, a17, a18, a19, a20, a21⟩ := u'
  obtain ⟨hR, e1, -⟩ := hE
  rw [hL] at e1
  have h := H _ hR
  unfold cw_T at h
  rw [← e1] at h
  exact h
theorem cw_sh : ∀ i, i < 4 → ((nI i &&& 31).toBitVec.smod 32).toNat = i := by decide +kernel
theorem cw_bt {n i : Nat} (hn : n < 4096) (hi : i < 4) : (nI n >>> (nI i &&& 31)) &&& 1 = nI (n / 2 ^ i % 2) := by
  rw [pk_shrN (by omega) _ i (cw_sh i hi)]
  exact pk_andN (Nat.lt_of_le_of_lt (Nat.div_le_self n (2 ^ i)) (by omega)) 1 (by decide)
theorem cw_forced {q : Nat → Nat} {a b c d r e : Nat} {post : Int32 → St2 → Prop} {u : St2} (hq : ∀ i, q i < 3) (hL : cw_sl (cw_wq q) 4 0 0 = cw_L a b c d) (hQ : cw_Q q u) (hr : r < 2) (he : e < 2) (hy : cw_any (cw_T a b c d 4096 cw_tt) < 4096) (hl : (cw_T a b c d 4096 cw_tt).length ≤ 16)
    (H : ∀ u', cw_R q u' → post (if (cw_T a b c d 4096 cw_tt).length = 0 then -4 else nI (cw_fo (cw_T a b c d 4096 cw_tt) (3 - 2 * r - e))) u') : wpX_forced post u (nI r) (nI e) := by
  obtain ⟨fr, fc, fl, fe, fh, fp, fy, fo, fn, fa, fz, a1, a2, a3, a4, a5, a6, a7, a8, a9, a10, a11, a12, a13, a14, a15, a16, a17, a18, a19, a20, a21⟩ := u
  have hA := hQ.1
  obtain ⟨rfl, rfl, -⟩ := hA
  unfold wpX_forced
  refine br_f (nI_pos (by omega)) (br_f (nI_ge (b := 2) hr (by decide)) (br_f (nI_pos (by omega)) (br_f (nI_ge (b := 2) he (by decide)) (br_f (by decide) ?_))))
  refine cw_scan (st := 4096) (lt := cw_tt) hq hQ (by decide) (by decide) rfl cw_lt4096 (fun u' hE => ?_)
  clear hQ
  obtain ⟨gr, gc, gl, ge, gh, gp, gy, go, gn, ga, gz, b1, b2, b3, b4, b5, b6, b7, b8, b9, b10, b11, b12, b13, b14, b15, b16, b17, b18, b19, b20, b21⟩ := u'
  obtain ⟨hR, e1, -, e3, e4⟩ := hE
  have hA' := hR.1
  obtain ⟨rfl, rfl, rfl, rfl, -⟩ := hA'
  rw [hL] at e1 e3 e4
  have h := H _ hR
  have ha := cw_all_lt (cw_T a b c d 4096 cw_tt)
  have e1' : go = nI (cw_T a b c d 4096 cw_tt).length := e1
  have e3' : ga = nI (cw_all (cw_T a b c d 4096 cw_tt)) := e3
  have e4' : gz = nI (cw_any (cw_T a b c d 4096 cw_tt)) := e4
  refine pk_eq (cw_T a b c d 4096 cw_tt).length 0 (fun z => ?_) (fun z => ?_) e1'
  · rw [if_pos z] at h
    exact h
  · rw [if_neg z] at h
    unfold cw_fo at h
    have ex : (4 : Int32) - 1 - nI r * 2 - nI e = nI (3 - 2 * r - e) := by
      rw [show (4 : Int32) - 1 = nI 3 from rfl, show (2 : Int32) = nI 2 from rfl, pk_mul, pk_sub (by omega), pk_sub (by omega), Nat.mul_comm]
    refine nm_r ex (pk_eq (cw_all (cw_T a b c d 4096 cw_tt) / 2 ^ (3 - 2 * r - e) % 2) 1 (fun z1 => ?_) (fun z1 => ?_) (by rw [e3']; exact cw_bt ha (by omega)))
    · rw [if_pos z1] at h
      exact h
    · rw [if_neg z1] at h
      refine pk_eq (cw_any (cw_T a b c d 4096 cw_tt) / 2 ^ (3 - 2 * r - e) % 2) 1 (fun z2 => ?_) (fun z2 => ?_) (by rw [e4']; exact cw_bt hy (by omega))
      · rw [if_pos z2] at h
        exact h
      · rw [if_neg z2] at h
        exact h
/-- what the law asks of the answer r at k -/
def cw_pst (a b c d : Nat) (k r : Int32) : Prop := (¬ 0 ≤ k → r = -1) ∧ (0 ≤ k → ¬ k < nI (cw_due a b c d) → r = -4) ∧ (0 ≤ k → k < nI (cw_due a b c d) → ¬ r < nI (cw_least a b c d) + k ∧ ¬ 16 ≤ r)
theorem cw_due16 {a b c d : Nat} (ha : a < 4) (hb : b < 4) (hc : c < 4) (hd : d < 4) : cw_due a b c d ≤ 16 ∧ (cw_L a b c d).length = cw_due a b c d := by
  have h := cw_c1_all a ha b hb c hc d hd
  simp only [cw_c1, Bool.and_eq_true, beq_iff_eq, decide_eq_true_eq] at h
  exact ⟨h.1.1.1.1.2, h.1.1.1.2⟩
theorem cw_kj {a b c d : Nat} (ha : a < 4) (hb : b < 4) (hc : c < 4) (hd : d < 4) (j : Nat) : ((cw_T a b c d (j + 1) cw_tt).length = j + 1 → j < cw_due a b c d ∧ ∃ n l, cw_T a b c d (j + 1) cw_tt = n :: l ∧ cw_least a b c d + j ≤ n ∧ n < 16) ∧ ((cw_T a b c d (j + 1) cw_tt).length ≠ j + 1 → cw_due a b c d ≤ j) := by
  obtain ⟨g1, g2⟩ := cw_due16 ha hb hc hd
  by_cases hj : j < 16
  · have h := cw_c2_all a ha b hb c hc d hd j hj
    unfold cw_c2 at h
    by_cases hk : j < cw_due a b c d
    · simp only [hk, if_true, Bool.and_eq_true, beq_iff_eq] at h
      obtain ⟨h1, h2⟩ := h
      refine ⟨fun _ => ⟨hk, ?_⟩, fun z => absurd h1 z⟩
      cases e : cw_T a b c d (j + 1) cw_tt with
      | nil => rw [e] at h2; exact absurd (show false = true from h2) (by decide)
      | cons n l =>
        rw [e] at h2
        simp only [Bool.and_eq_true, decide_eq_true_eq] at h2
        exact ⟨n, l, rfl, h2.1, h2.2⟩
    · simp only [hk, if_false, decide_eq_true_eq] at h
      exact ⟨fun z => absurd z h, fun _ => by omega⟩
  · have h := cw_fe_big (j + 1) (cw_L a b c d) (false, []) rfl (by show 0 + (cw_L a b c d).length < j + 1; omega)
    have h' : (cw_T a b c d (j + 1) cw_tt).length = 0 + (cw_L a b c d).length := h
    exact ⟨fun z => absurd z (by omega), fun _ => by omega⟩
theorem cw_fe_len (st : Nat) (lt : Nat → Bool) : ∀ (l : List Nat) (s : Bool × List Nat), (l.foldl (cw_en st lt) s).2.length ≤ s.2.length + l.length := by
  intro l
  induction l with
  | nil => intro s; exact Nat.le_refl _
  | cons n l ih =>
    intro s
    rw [List.foldl_cons, List.length_cons]
    refine Nat.le_trans (ih _) ?_
    have : (cw_en st lt s n).2.length ≤ s.2.length + 1 := by
      obtain ⟨o, s⟩ := s
      cases o
      · exact cw_en_len st lt s n
      · exact Nat.le_succ _
    omega
theorem cw_filling {q : Nat → Nat} {a b c d : Nat} {post : Int32 → St2 → Prop} {u : St2} {k : Int32} (hq : ∀ i, q i < 3) (hL : cw_sl (cw_wq q) 4 0 0 = cw_L a b c d) (ha : a < 4) (hb : b < 4) (hc : c < 4) (hd : d < 4) (hR : cw_R q u) (H : ∀ r u', cw_R q u' → cw_pst a b c d k r → post r u') : wpX_filling post u k := by
  obtain ⟨g1, g2⟩ := cw_due16 ha hb hc hd
  obtain ⟨fr, fc, fl, fe, fh, fp, fy, fo, fn, fa, fz, a1, a2, a3, a4, a5, a6, a7, a8, a9, a10, a11, a12, a13, a14, a15, a16, a17, a18, a19, a20, a21⟩ := u
  unfold wpX_filling
  rcases pk_ix k (n := 4096) (by decide) with h | h | ⟨j, hj, rfl⟩
  · have h' : ¬ 0 ≤ k := Int32.not_le.mpr h
    exact br_f h' (H _ _ hR ⟨fun _ => rfl, fun z => absurd z h', fun z => absurd z h'⟩)
  · have h' : 0 ≤ k := Int32.le_trans (show (0 : Int32) ≤ nI 4096 by decide) h
    refine br_t h' (br_f (Int32.not_lt.mpr h) (H _ _ hR ⟨fun z => absurd h' z, fun _ _ => rfl, fun _ z => ?_⟩))
    exact absurd (Int32.lt_of_lt_of_le z (Int32.le_trans (nI_le (b := 4096) (by omega) (by decide)) h)) (Int32.lt_irrefl)
  · refine br_t (nI_pos' (by omega)) (br_t (nI_lt (b := 4096) hj (by decide)) ?_)
    refine cw_scan (st := j + 1) (lt := cw_tt) hq (cw_RQ hR) (by omega) (by omega) (nI_1 j) cw_lt4096 (fun u' hE => ?_)
    obtain ⟨gr, gc, gl, ge, gh, gp, gy, go, gn, ga, gz, b1, b2, b3, b4, b5, b6, b7, b8, b9, b10, b11, b12, b13, b14, b15, b16, b17, b18, b19, b20, b21⟩ := u'
    obtain ⟨hR', e1, e2, -, -⟩ := hE
    rw [hL] at e1 e2
    have e1' : go = nI (cw_T a b c d (j + 1) cw_tt).length := e1
    have e2' : gn = cw_num (cw_T a b c d (j + 1) cw_tt) := e2
    have hl : (cw_T a b c d (j + 1) cw_tt).length ≤ 0 + (cw_L a b c d).length := cw_fe_len (j + 1) cw_tt (cw_L a b c d) (false, [])
    obtain ⟨k1, k2⟩ := cw_kj ha hb hc hd j
    refine pk_eq (cw_T a b c d (j + 1) cw_tt).length (j + 1) (fun z => H _ _ hR' ?_) (fun z => H _ _ hR' ?_) e1' (nI_1 j)
    · obtain ⟨m1, n, l, m2, m3, m4⟩ := k1 z
      rw [e2', m2]
      refine ⟨fun z => absurd (nI_pos' (by omega)) z, fun _ z => absurd (nI_lt m1 (by omega)) z, fun _ _ => ⟨?_, nI_ge (b := 16) m4 (by decide)⟩⟩
      rw [nI_add]
      exact nI_nlt m3 (by omega)
    · have m1 := k2 z
      exact ⟨fun z => absurd (nI_pos' (by omega)) z, fun _ _ => rfl, fun _ z => absurd z (nI_nlt m1 (by omega))⟩
end
section
/-! the law -/
theorem cw_meet {post : Int32 → Prop} {x y : Nat} (hx : x < 3) (hy : y < 3) (H : post (nI (cw_mt x y))) : wpL_meet post () (nI x) (nI y) := by
  unfold cw_mt at H
  refine pk_eq x 2 (fun z => ?_) (fun z => pk_eq y 2 (fun z2 => ?_) (fun z2 => pk_eq x y (fun z3 => ?_) (fun z3 => ?_)))
  · rw [if_pos z] at H
    exact H
  · rw [if_neg z, if_pos z2] at H
    exact H
  · rw [if_neg z, if_neg z2, if_pos z3] at H
    exact H
  · rw [if_neg z, if_neg z2, if_neg z3] at H
    exact H
/-- the law's last test -/
theorem cw_kt {post : Int32 → St0 → Prop} {mc ms kc ks a b c d : Nat} {k r x14 z0 z1 : Int32} (h : cw_pst a b c d k r) (h14 : ¬ x14 = 0) (hz : z1 = z0) (H : post 1 ()) : wL_lawOf_391 post mc ms k (nI (cw_due a b c d)) (nI (cw_least a b c d)) r x14 z0 z1 kc ks := by
  refine br_t hz (br_f h14 (br_c (fun h0 => br_c (fun h1 => ?_) (fun h1 => ?_)) (fun h0 => ?_)))
  · obtain ⟨g1, g2⟩ := h.2.2 h0 h1
    exact br_f g1 (br_f g2 H)
  · exact br_t (h.2.1 h0 h1) H
  · exact br_t (h.1 h0) H
theorem cw_a1 {a : Nat} (ha : a < 4) : nI a &&& 1 = nI (a % 2) := pk_andN (by omega) 1 (by decide)
theorem cw_lst {a b c d : Nat} (ha : a < 4) (hb : b < 4) (hc : c < 4) (hd : d < 4) : (nI a &&& 1) * 8 + (nI b &&& 1) * 4 + (nI c &&& 1) * 2 + (nI d &&& 1) = nI (cw_least a b c d) := by
  rw [cw_a1 ha, cw_a1 hb, cw_a1 hc, cw_a1 hd, show (8 : Int32) = nI 8 from rfl, show (4 : Int32) = nI 4 from rfl, show (2 : Int32) = nI 2 from rfl, pk_mul, pk_mul, pk_mul, nI_add, nI_add, nI_add]
  rfl
theorem cw_f1 {a b c d : Nat} (ha : a < 4) (hb : b < 4) (hc : c < 4) (hd : d < 4) : (cw_T a b c d 4096 cw_tt).length = cw_due a b c d ∧ cw_any (cw_T a b c d 4096 cw_tt) < 4096 := by
  have h := cw_c1_all a ha b hb c hc d hd
  simp only [cw_c1, Bool.and_eq_true, beq_iff_eq, decide_eq_true_eq] at h
  exact ⟨h.1.1.1.1.1, h.1.2⟩
theorem cw_fn {a b c d : Nat} (ha : a < 4) (hb : b < 4) (hc : c < 4) (hd : d < 4) (hn : cw_no a b c d = true) : cw_L a b c d = [] ∧ cw_due a b c d = 0 := by
  have h := cw_c1_all a ha b hb c hc d hd
  simp only [cw_c1, hn, if_true, Bool.and_eq_true, List.isEmpty_iff] at h
  exact ⟨h.2, by unfold cw_due; rw [hn]; rfl⟩
theorem cw_ff {a b c d : Nat} (ha : a < 4) (hb : b < 4) (hc : c < 4) (hd : d < 4) (hn : cw_no a b c d = false) : cw_least a b c d ≤ 15 ∧ 1 ≤ cw_due a b c d ∧ cw_fo (cw_T a b c d 4096 cw_tt) 3 = a ∧ cw_fo (cw_T a b c d 4096 cw_tt) 2 = b ∧ cw_fo (cw_T a b c d 4096 cw_tt) 1 = c ∧ cw_fo (cw_T a b c d 4096 cw_tt) 0 = d ∧ (cw_T a b c d 4096 (fun n => decide (n < cw_least a b c d + 1))).length = 1 ∧ cw_T a b c d 1 cw_tt = [cw_least a b c d] := by
  have h := cw_c1_all a ha b hb c hc d hd
  simp only [cw_c1, hn, Bool.false_eq_true, if_false, Bool.and_eq_true, beq_iff_eq, decide_eq_true_eq] at h
  obtain ⟨⟨⟨-, h0⟩, -⟩, ⟨⟨⟨⟨⟨⟨-, h1⟩, h2⟩, h3⟩, h4⟩, h5⟩, h6⟩, h7⟩ := h
  exact ⟨h0, h7, h1, h2, h3, h4, h5, h6⟩
theorem cw_first {q : Nat → Nat} {a b c d : Nat} {post : Int32 → St2 → Prop} {u : St2} (hq : ∀ i, q i < 3) (hL : cw_sl (cw_wq q) 4 0 0 = cw_L a b c d) (ha : a < 4) (hb : b < 4) (hc : c < 4) (hd : d < 4) (hR : cw_R q u) (H : ∀ u', cw_R q u' → post (if cw_no a b c d then -4 else nI (cw_least a b c d)) u') : wpX_filling post u 0 := by
  obtain ⟨fr, fc, fl, fe, fh, fp, fy, fo, fn, fa, fz, a1, a2, a3, a4, a5, a6, a7, a8, a9, a10, a11, a12, a13, a14, a15, a16, a17, a18, a19, a20, a21⟩ := u
  unfold wpX_filling
  refine br_t (by decide) (br_t (by decide) ?_)
  refine cw_scan (st := 1) (lt := cw_tt) hq (cw_RQ hR) (by omega) (by omega) rfl cw_lt4096 (fun u' hE => ?_)
  obtain ⟨gr, gc, gl, ge, gh, gp, gy, go, gn, ga, gz, b1, b2, b3, b4, b5, b6, b7, b8, b9, b10, b11, b12, b13, b14, b15, b16, b17, b18, b19, b20, b21⟩ := u'
  obtain ⟨hR', e1, e2, -, -⟩ := hE
  rw [hL] at e1 e2
  have e1' : go = nI (cw_T a b c d 1 cw_tt).length := e1
  have e2' : gn = cw_num (cw_T a b c d 1 cw_tt) := e2
  have h := H _ hR'
  cases hn : cw_no a b c d
  · rw [hn, if_neg (by decide)] at h
    obtain ⟨-, -, -, -, -, -, -, h6⟩ := cw_ff ha hb hc hd hn
    rw [h6] at e1' e2'
    refine br_t (by rw [e1']; rfl) ?_
    have e3 : gn = nI (cw_least a b c d) := e2'
    rw [← e3] at h
    exact h
  · rw [hn, if_pos rfl] at h
    obtain ⟨h1, -⟩ := cw_fn ha hb hc hd hn
    have h6 : cw_T a b c d 1 cw_tt = [] := by
      unfold cw_T
      rw [h1]
      rfl
    rw [h6] at e1'
    exact br_f (by rw [e1']; decide) h
end
section
/-! the law's end -/
theorem cw_fill2 {q : Nat → Nat} {a b c d : Nat} {post : Int32 → St2 → Prop} {u : St2} (hq : ∀ i, q i < 3) (hL : cw_sl (cw_wq q) 4 0 0 = cw_L a b c d) (ha : a < 4) (hb : b < 4) (hc : c < 4) (hd : d < 4) (hQ : cw_Q q u) (H : ∀ u', cw_R q u' → post (nI (cw_due a b c d)) u') : wpX_fillings post u := by
  refine cw_fillings hq hL hQ (fun u' h => ?_)
  rw [(cw_f1 ha hb hc hd).1]
  exact H u' h
theorem cw_fcT {q : Nat → Nat} {a b c d : Nat} (r e : Nat) {post : Int32 → St2 → Prop} {u : St2} (hq : ∀ i, q i < 3) (hL : cw_sl (cw_wq q) 4 0 0 = cw_L a b c d) (ha : a < 4) (hb : b < 4) (hc : c < 4) (hd : d < 4) (hr : r < 2) (he : e < 2) (hn : cw_no a b c d = true) (hR : cw_R q u) (H : ∀ u', cw_R q u' → post (-4) u') : wpX_forced post u (nI r) (nI e) := by
  obtain ⟨t1, t2⟩ := cw_f1 ha hb hc hd
  obtain ⟨t3, -⟩ := cw_due16 ha hb hc hd
  refine cw_forced hq hL (cw_RQ hR) hr he t2 (by omega) (fun u' h => ?_)
  rw [t1, (cw_fn ha hb hc hd hn).2, if_pos rfl]
  exact H u' h
theorem cw_fcF {q : Nat → Nat} {a b c d : Nat} (r e w : Nat) {post : Int32 → St2 → Prop} {u : St2} (hq : ∀ i, q i < 3) (hL : cw_sl (cw_wq q) 4 0 0 = cw_L a b c d) (ha : a < 4) (hb : b < 4) (hc : c < 4) (hd : d < 4) (hr : r < 2) (he : e < 2) (hn : cw_no a b c d = false) (hw : cw_fo (cw_T a b c d 4096 cw_tt) (3 - 2 * r - e) = w) (hR : cw_R q u) (H : ∀ u', cw_R q u' → post (nI w) u') : wpX_forced post u (nI r) (nI e) := by
  obtain ⟨t1, t2⟩ := cw_f1 ha hb hc hd
  obtain ⟨t3, -⟩ := cw_due16 ha hb hc hd
  obtain ⟨-, t4, -⟩ := cw_ff ha hb hc hd hn
  refine cw_forced hq hL (cw_RQ hR) hr he t2 (by omega) (fun u' h => ?_)
  rw [t1, if_neg (by omega), hw]
  exact H u' h
theorem cw_blT {q : Nat → Nat} {a b c d : Nat} {post : Int32 → St2 → Prop} {u : St2} {x2 : Int32} (hq : ∀ i, q i < 3) (hL : cw_sl (cw_wq q) 4 0 0 = cw_L a b c d) (ha : a < 4) (hb : b < 4) (hc : c < 4) (hd : d < 4) (hn : cw_no a b c d = true) (hR : cw_R q u) (H : ∀ u', cw_R q u' → post 0 u') : wpX_below post u x2 := by
  refine cw_below (lt := fun n => decide (nI n < x2)) hq hL (cw_RQ hR) (fun n _ => decide_eq_true_iff.symm) (fun u' h => ?_)
  unfold cw_T
  rw [(cw_fn ha hb hc hd hn).1]
  exact H u' h
theorem cw_blF {q : Nat → Nat} {a b c d : Nat} {post : Int32 → St2 → Prop} {u : St2} (hq : ∀ i, q i < 3) (hL : cw_sl (cw_wq q) 4 0 0 = cw_L a b c d) (ha : a < 4) (hb : b < 4) (hc : c < 4) (hd : d < 4) (hn : cw_no a b c d = false) (hR : cw_R q u) (H : ∀ u', cw_R q u' → post 1 u') : wpX_below post u (nI (cw_least a b c d) + 1) := by
  obtain ⟨t1, -, -, -, -, -, t2, -⟩ := cw_ff ha hb hc hd hn
  refine cw_below (lt := fun n => decide (n < cw_least a b c d + 1)) hq hL (cw_RQ hR) (fun n hn => ?_) (fun u' h => ?_)
  · rw [nI_1, nI_ltI (by omega) (by omega)]
    exact decide_eq_true_iff.symm
  · rw [t2]
    exact H u' h
theorem cw_firT {q : Nat → Nat} {a b c d : Nat} {post : Int32 → St2 → Prop} {u : St2} (hq : ∀ i, q i < 3) (hL : cw_sl (cw_wq q) 4 0 0 = cw_L a b c d) (ha : a < 4) (hb : b < 4) (hc : c < 4) (hd : d < 4) (hn : cw_no a b c d = true) (hR : cw_R q u) (H : ∀ u', cw_R q u' → post (-4) u') : wpX_filling post u 0 := by
  refine cw_first hq hL ha hb hc hd hR (fun u' h => ?_)
  rw [hn, if_pos rfl]
  exact H u' h
theorem cw_firF {q : Nat → Nat} {a b c d : Nat} {post : Int32 → St2 → Prop} {u : St2} (hq : ∀ i, q i < 3) (hL : cw_sl (cw_wq q) 4 0 0 = cw_L a b c d) (ha : a < 4) (hb : b < 4) (hc : c < 4) (hd : d < 4) (hn : cw_no a b c d = false) (hR : cw_R q u) (H : ∀ u', cw_R q u' → post (nI (cw_least a b c d)) u') : wpX_filling post u 0 := by
  refine cw_first hq hL ha hb hc hd hR (fun u' h => ?_)
  rw [hn, if_neg (by decide)]
  exact H u' h
theorem cw_206T {q : Nat → Nat} {post : Int32 → St0 → Prop} {mc ms kc ks a b c d : Nat} {k : Int32} {fr fc fl fe fh fp fy fo fn fa fz : Int32} {a1 a2 a3 a4 a5 a6 a7 a8 a9 a10 a11 a12 a13 a14 a15 a16 a17 a18 a19 a20 a21 : Nat → Int32} (hq : ∀ i, q i < 3) (hL : cw_sl (cw_wq q) 4 0 0 = cw_L a b c d) (ha : a < 4) (hb : b < 4) (hc : c < 4) (hd : d < 4) (hn : cw_no a b c d = true) (hQ : cw_Q q (fr, fc, fl, fe, fh, fp, fy, fo, fn, fa, fz, a1, a2, a3, a4, a5, a6, a7, a8, a9, a10, a11, a12, a13, a14, a15, a16, a17, a18, a19, a20, a21)) (H : post 1 ()) : wL_lawOf_206 post mc ms k (nI a) (nI b) (nI c) (nI d) 1 (nI (cw_due a b c d)) kc ks fr fc fl fe fh fp fy fo fn fa fz a1 a2 a3 a4 a5 a6 a7 a8 a9 a10 a11 a12 a13 a14 a15 a16 a17 a18 a19 a20 a21 := by
  refine nm_r (cw_lst ha hb hc hd) (cw_fill2 hq hL ha hb hc hd hQ (fun u1 hR1 => ?_))
  clear hQ
  obtain ⟨f1r, f1c, f1l, f1e, f1h, f1p, f1y, f1o, f1n, f1a, f1z, a1_1, a1_2, a1_3, a1_4, a1_5, a1_6, a1_7, a1_8, a1_9, a1_10, a1_11, a1_12, a1_13, a1_14, a1_15, a1_16, a1_17, a1_18, a1_19, a1_20, a1_21⟩ := u1
  refine cw_firT hq hL ha hb hc hd hn hR1 (fun u2 hR2 => ?_)
  clear hR1
  obtain ⟨f2r, f2c, f2l, f2e, f2h, f2p, f2y, f2o, f2n, f2a, f2z, a2_1, a2_2, a2_3, a2_4, a2_5, a2_6, a2_7, a2_8, a2_9, a2_10, a2_11, a2_12, a2_13, a2_14, a2_15, a2_16, a2_17, a2_18, a2_19, a2_20, a2_21⟩ := u2
  refine cw_filling hq hL ha hb hc hd hR2 (fun past u3 hR3 hp => ?_)
  clear hR2
  obtain ⟨f3r, f3c, f3l, f3e, f3h, f3p, f3y, f3o, f3n, f3a, f3z, a3_1, a3_2, a3_3, a3_4, a3_5, a3_6, a3_7, a3_8, a3_9, a3_10, a3_11, a3_12, a3_13, a3_14, a3_15, a3_16, a3_17, a3_18, a3_19, a3_20, a3_21⟩ := u3
  refine cw_blT hq hL ha hb hc hd hn hR3 (fun u4 hR4 => ?_)
  clear hR3
  obtain ⟨f4r, f4c, f4l, f4e, f4h, f4p, f4y, f4o, f4n, f4a, f4z, a4_1, a4_2, a4_3, a4_4, a4_5, a4_6, a4_7, a4_8, a4_9, a4_10, a4_11, a4_12, a4_13, a4_14, a4_15, a4_16, a4_17, a4_18, a4_19, a4_20, a4_21⟩ := u4
  refine cw_fcT 0 0 hq hL ha hb hc hd (by omega) (by omega) hn hR4 (fun u5 hR5 => br_f (by decide) ?_)
  clear hR4
  obtain ⟨f5r, f5c, f5l, f5e, f5h, f5p, f5y, f5o, f5n, f5a, f5z, a5_1, a5_2, a5_3, a5_4, a5_5, a5_6, a5_7, a5_8, a5_9, a5_10, a5_11, a5_12, a5_13, a5_14, a5_15, a5_16, a5_17, a5_18, a5_19, a5_20, a5_21⟩ := u5
  refine br_t rfl (cw_fcT 0 1 hq hL ha hb hc hd (by omega) (by omega) hn hR5 (fun u6 hR6 => br_f (by decide) ?_))
  clear hR5
  obtain ⟨f6r, f6c, f6l, f6e, f6h, f6p, f6y, f6o, f6n, f6a, f6z, a6_1, a6_2, a6_3, a6_4, a6_5, a6_6, a6_7, a6_8, a6_9, a6_10, a6_11, a6_12, a6_13, a6_14, a6_15, a6_16, a6_17, a6_18, a6_19, a6_20, a6_21⟩ := u6
  refine br_t rfl (cw_fcT 1 0 hq hL ha hb hc hd (by omega) (by omega) hn hR6 (fun u7 hR7 => br_f (by decide) ?_))
  clear hR6
  obtain ⟨f7r, f7c, f7l, f7e, f7h, f7p, f7y, f7o, f7n, f7a, f7z, a7_1, a7_2, a7_3, a7_4, a7_5, a7_6, a7_7, a7_8, a7_9, a7_10, a7_11, a7_12, a7_13, a7_14, a7_15, a7_16, a7_17, a7_18, a7_19, a7_20, a7_21⟩ := u7
  refine br_t rfl (cw_fcT 1 1 hq hL ha hb hc hd (by omega) (by omega) hn hR7 (fun u8 hR8 => br_f (by decide) ?_))
  clear hR7
  refine br_t rfl (br_t rfl (br_f (by decide) (br_t rfl (br_f (by decide) ?_))))
  exact cw_kt hp (by decide) rfl H
theorem cw_206F {q : Nat → Nat} {post : Int32 → St0 → Prop} {mc ms kc ks a b c d : Nat} {k : Int32} {fr fc fl fe fh fp fy fo fn fa fz : Int32} {a1 a2 a3 a4 a5 a6 a7 a8 a9 a10 a11 a12 a13 a14 a15 a16 a17 a18 a19 a20 a21 : Nat → Int32} (hq : ∀ i, q i < 3) (hL : cw_sl (cw_wq q) 4 0 0 = cw_L a b c d) (ha : a < 4) (hb : b < 4) (hc : c < 4) (hd : d < 4) (hn : cw_no a b c d = false) (hQ : cw_Q q (fr, fc, fl, fe, fh, fp, fy, fo, fn, fa, fz, a1, a2, a3, a4, a5, a6, a7, a8, a9, a10, a11, a12, a13, a14, a15, a16, a17, a18, a19, a20, a21)) (H : post 1 ()) : wL_lawOf_206 post mc ms k (nI a) (nI b) (nI c) (nI d) 0 (nI (cw_due a b c d)) kc ks fr fc fl fe fh fp fy fo fn fa fz a1 a2 a3 a4 a5 a6 a7 a8 a9 a10 a11 a12 a13 a14 a15 a16 a17 a18 a19 a20 a21 := by
  obtain ⟨-, -, w0, w1, w2, w3, -, -⟩ := cw_ff ha hb hc hd hn
  refine nm_r (cw_lst ha hb hc hd) (cw_fill2 hq hL ha hb hc hd hQ (fun u1 hR1 => ?_))
  clear hQ
  obtain ⟨f1r, f1c, f1l, f1e, f1h, f1p, f1y, f1o, f1n, f1a, f1z, a1_1, a1_2, a1_3, a1_4, a1_5, a1_6, a1_7, a1_8, a1_9, a1_10, a1_11, a1_12, a1_13, a1_14, a1_15, a1_16, a1_17, a1_18, a1_19, a1_20, a1_21⟩ := u1
  refine cw_firF hq hL ha hb hc hd hn hR1 (fun u2 hR2 => ?_)
  clear hR1
  obtain ⟨f2r, f2c, f2l, f2e, f2h, f2p, f2y, f2o, f2n, f2a, f2z, a2_1, a2_2, a2_3, a2_4, a2_5, a2_6, a2_7, a2_8, a2_9, a2_10, a2_11, a2_12, a2_13, a2_14, a2_15, a2_16, a2_17, a2_18, a2_19, a2_20, a2_21⟩ := u2
  refine cw_filling hq hL ha hb hc hd hR2 (fun past u3 hR3 hp => ?_)
  clear hR2
  obtain ⟨f3r, f3c, f3l, f3e, f3h, f3p, f3y, f3o, f3n, f3a, f3z, a3_1, a3_2, a3_3, a3_4, a3_5, a3_6, a3_7, a3_8, a3_9, a3_10, a3_11, a3_12, a3_13, a3_14, a3_15, a3_16, a3_17, a3_18, a3_19, a3_20, a3_21⟩ := u3
  refine cw_blF hq hL ha hb hc hd hn hR3 (fun u4 hR4 => ?_)
  clear hR3
  obtain ⟨f4r, f4c, f4l, f4e, f4h, f4p, f4y, f4o, f4n, f4a, f4z, a4_1, a4_2, a4_3, a4_4, a4_5, a4_6, a4_7, a4_8, a4_9, a4_10, a4_11, a4_12, a4_13, a4_14, a4_15, a4_16, a4_17, a4_18, a4_19, a4_20, a4_21⟩ := u4
  refine cw_fcF 0 0 a hq hL ha hb hc hd (by omega) (by omega) hn w0 hR4 (fun u5 hR5 => br_t rfl ?_)
  clear hR4
  obtain ⟨f5r, f5c, f5l, f5e, f5h, f5p, f5y, f5o, f5n, f5a, f5z, a5_1, a5_2, a5_3, a5_4, a5_5, a5_6, a5_7, a5_8, a5_9, a5_10, a5_11, a5_12, a5_13, a5_14, a5_15, a5_16, a5_17, a5_18, a5_19, a5_20, a5_21⟩ := u5
  refine br_t rfl (cw_fcF 0 1 b hq hL ha hb hc hd (by omega) (by omega) hn w1 hR5 (fun u6 hR6 => br_t rfl ?_))
  clear hR5
  obtain ⟨f6r, f6c, f6l, f6e, f6h, f6p, f6y, f6o, f6n, f6a, f6z, a6_1, a6_2, a6_3, a6_4, a6_5, a6_6, a6_7, a6_8, a6_9, a6_10, a6_11, a6_12, a6_13, a6_14, a6_15, a6_16, a6_17, a6_18, a6_19, a6_20, a6_21⟩ := u6
  refine br_t rfl (cw_fcF 1 0 c hq hL ha hb hc hd (by omega) (by omega) hn w2 hR6 (fun u7 hR7 => br_t rfl ?_))
  clear hR6
  obtain ⟨f7r, f7c, f7l, f7e, f7h, f7p, f7y, f7o, f7n, f7a, f7z, a7_1, a7_2, a7_3, a7_4, a7_5, a7_6, a7_7, a7_8, a7_9, a7_10, a7_11, a7_12, a7_13, a7_14, a7_15, a7_16, a7_17, a7_18, a7_19, a7_20, a7_21⟩ := u7
  refine br_t rfl (cw_fcF 1 1 d hq hL ha hb hc hd (by omega) (by omega) hn w3 hR7 (fun u8 hR8 => br_t rfl ?_))
  clear hR7
  refine br_t rfl (br_t rfl (br_t rfl (br_t rfl (br_t rfl ?_))))
  exact cw_kt hp (by decide) rfl H
end
section
/-! the law's middle and the owed statement -/
theorem cw_149 {q : Nat → Nat} {post : Int32 → St0 → Prop} {mc ms kc ks a b c d : Nat} {k : Int32} {fr fc fl fe fh fp fy fo fn fa fz : Int32} {a1 a2 a3 a4 a5 a6 a7 a8 a9 a10 a11 a12 a13 a14 a15 a16 a17 a18 a19 a20 a21 : Nat → Int32} (hq : ∀ i, q i < 3) (hL : cw_sl (cw_wq q) 4 0 0 = cw_L a b c d) (ha : a < 4) (hb : b < 4) (hc : c < 4) (hd : d < 4) (hn : cw_no a b c d = false) (hQ : cw_Q q (fr, fc, fl, fe, fh, fp, fy, fo, fn, fa, fz, a1, a2, a3, a4, a5, a6, a7, a8, a9, a10, a11, a12, a13, a14, a15, a16, a17, a18, a19, a20, a21)) (H : post 1 ()) : wL_lawOf_149 post mc ms k (nI a) (nI b) (nI c) (nI d) 0 kc ks fr fc fl fe fh fp fy fo fn fa fz a1 a2 a3 a4 a5 a6 a7 a8 a9 a10 a11 a12 a13 a14 a15 a16 a17 a18 a19 a20 a21 := by
  have E0 : wL_lawOf_206 post mc ms k (nI a) (nI b) (nI c) (nI d) 0 (nI (cw_due a b c d)) kc ks fr fc fl fe fh fp fy fo fn fa fz a1 a2 a3 a4 a5 a6 a7 a8 a9 a10 a11 a12 a13 a14 a15 a16 a17 a18 a19 a20 a21 := cw_206F hq hL ha hb hc hd hn hQ H
  have e : cw_due a b c d = cw_f a * cw_f b * cw_f c * cw_f d := by
    unfold cw_due
    rw [hn]
    rfl
  have E1 : wL_lawOf_205 post mc ms k (nI a) (nI b) (nI c) (nI d) 0 (nI (cw_f d)) (nI (cw_f a) * nI (cw_f b) * nI (cw_f c)) kc ks fr fc fl fe fh fp fy fo fn fa fz a1 a2 a3 a4 a5 a6 a7 a8 a9 a10 a11 a12 a13 a14 a15 a16 a17 a18 a19 a20 a21 := by
    unfold wL_lawOf_205
    rw [pk_mul, pk_mul, pk_mul, ← e]
    exact E0
  have E2 : wL_lawOf_193 post mc ms k (nI a) (nI b) (nI c) (nI d) 0 (nI (cw_f c)) (nI (cw_f a) * nI (cw_f b)) kc ks fr fc fl fe fh fp fy fo fn fa fz a1 a2 a3 a4 a5 a6 a7 a8 a9 a10 a11 a12 a13 a14 a15 a16 a17 a18 a19 a20 a21 := by
    unfold cw_f at E1
    unfold cw_f
    refine pk_eq d 2 (fun z => ?_) (fun z => ?_)
    · rw [if_pos z] at E1
      exact E1
    · rw [if_neg z] at E1
      exact E1
  have E3 : wL_lawOf_181 post mc ms k (nI a) (nI b) (nI c) (nI d) 0 (nI (cw_f b)) (nI (cw_f a)) kc ks fr fc fl fe fh fp fy fo fn fa fz a1 a2 a3 a4 a5 a6 a7 a8 a9 a10 a11 a12 a13 a14 a15 a16 a17 a18 a19 a20 a21 := by
    unfold cw_f at E2
    unfold cw_f
    refine pk_eq c 2 (fun z => ?_) (fun z => ?_)
    · rw [if_pos z] at E2
      exact E2
    · rw [if_neg z] at E2
      exact E2
  have E4 : wL_lawOf_170 post mc ms k (nI a) (nI b) (nI c) (nI d) 0 (nI (cw_f a)) kc ks fr fc fl fe fh fp fy fo fn fa fz a1 a2 a3 a4 a5 a6 a7 a8 a9 a10 a11 a12 a13 a14 a15 a16 a17 a18 a19 a20 a21 := by
    unfold cw_f at E3
    unfold cw_f
    refine pk_eq b 2 (fun z => ?_) (fun z => ?_)
    · rw [if_pos z] at E3
      exact E3
    · rw [if_neg z] at E3
      exact E3
  unfold cw_f at E4
  refine br_t rfl (pk_eq a 2 (fun z => ?_) (fun z => ?_))
  · rw [if_pos z] at E4
    exact E4
  · rw [if_neg z] at E4
    exact E4
theorem cw_144 {q : Nat → Nat} {post : Int32 → St0 → Prop} {mc ms kc ks a b c d : Nat} {k : Int32} {fr fc fl fe fh fp fy fo fn fa fz : Int32} {a1 a2 a3 a4 a5 a6 a7 a8 a9 a10 a11 a12 a13 a14 a15 a16 a17 a18 a19 a20 a21 : Nat → Int32} (hq : ∀ i, q i < 3) (hL : cw_sl (cw_wq q) 4 0 0 = cw_L a b c d) (ha : a < 4) (hb : b < 4) (hc : c < 4) (hd : d < 4) (hn : cw_no a b c d = true) (hQ : cw_Q q (fr, fc, fl, fe, fh, fp, fy, fo, fn, fa, fz, a1, a2, a3, a4, a5, a6, a7, a8, a9, a10, a11, a12, a13, a14, a15, a16, a17, a18, a19, a20, a21)) (H : post 1 ()) : wL_lawOf_144 post mc ms k (nI a) (nI b) (nI c) (nI d) kc ks fr fc fl fe fh fp fy fo fn fa fz a1 a2 a3 a4 a5 a6 a7 a8 a9 a10 a11 a12 a13 a14 a15 a16 a17 a18 a19 a20 a21 := by
  have E0 : wL_lawOf_206 post mc ms k (nI a) (nI b) (nI c) (nI d) 1 (nI (cw_due a b c d)) kc ks fr fc fl fe fh fp fy fo fn fa fz a1 a2 a3 a4 a5 a6 a7 a8 a9 a10 a11 a12 a13 a14 a15 a16 a17 a18 a19 a20 a21 := cw_206T hq hL ha hb hc hd hn hQ H
  rw [(cw_fn ha hb hc hd hn).2] at E0
  exact br_f (by decide) E0
theorem cw_no_t {a b c d : Nat} (h : a = 3 ∨ b = 3 ∨ c = 3 ∨ d = 3) : cw_no a b c d = true := by
  simp only [cw_no, Bool.or_eq_true, beq_iff_eq]
  omega
theorem cw_no_f {a b c d : Nat} (h1 : a ≠ 3) (h2 : b ≠ 3) (h3 : c ≠ 3) (h4 : d ≠ 3) : cw_no a b c d = false := by
  simp only [cw_no, Bool.or_eq_false_iff, beq_eq_false_iff_ne]
  exact ⟨⟨⟨h1, h2⟩, h3⟩, h4⟩
theorem cw_top {post : Int32 → St0 → Prop} {mc ms kc ks n : Nat} {x0 x1 : Int32} {u : St2} (hQ : cw_Q (cw_q x0) u) (H : post 1 ()) : cw_LW post mc ms x0 x1 kc ks (n + 1) (nI 4) u := by
  obtain ⟨fr, fc, fl, fe, fh, fp, fy, fo, fn, fa, fz, a1, a2, a3, a4, a5, a6, a7, a8, a9, a10, a11, a12, a13, a14, a15, a16, a17, a18, a19, a20, a21⟩ := u
  have hq := cw_q_lt x0
  refine pk_le 4 4 (fun _ => ?_) (fun z => absurd z (by omega))
  refine cw_lt1 0 rfl (cw_lt1 4 rfl (cw_meet (hq _) (hq _) (cw_lt1 1 rfl (cw_lt1 6 rfl (cw_meet (hq _) (hq _) (cw_lt1 2 rfl (cw_lt1 5 rfl (cw_meet (hq _) (hq _) (cw_lt1 3 rfl (cw_lt1 7 rfl (cw_meet (hq _) (hq _) ?_)))))))))))
  have hL := cw_L_q (cw_q x0)
  have ha := cw_mt_lt (cw_q x0 0) (hq _) (cw_q x0 4) (hq _)
  have hb := cw_mt_lt (cw_q x0 1) (hq _) (cw_q x0 6) (hq _)
  have hc := cw_mt_lt (cw_q x0 2) (hq _) (cw_q x0 5) (hq _)
  have hd := cw_mt_lt (cw_q x0 3) (hq _) (cw_q x0 7) (hq _)
  generalize cw_mt (cw_q x0 0) (cw_q x0 4) = a at hL ha ⊢
  generalize cw_mt (cw_q x0 1) (cw_q x0 6) = b at hL hb ⊢
  generalize cw_mt (cw_q x0 2) (cw_q x0 5) = c at hL hc ⊢
  generalize cw_mt (cw_q x0 3) (cw_q x0 7) = d at hL hd ⊢
  refine pk_eq a 3 (fun z => cw_144 hq hL ha hb hc hd (cw_no_t (Or.inl z)) hQ H) (fun z1 => pk_eq b 3 (fun z => cw_144 hq hL ha hb hc hd (cw_no_t (Or.inr (Or.inl z))) hQ H) (fun z2 => pk_eq c 3 (fun z => cw_144 hq hL ha hb hc hd (cw_no_t (Or.inr (Or.inr (Or.inl z)))) hQ H) (fun z3 => pk_eq d 3 (fun z => cw_144 hq hL ha hb hc hd (cw_no_t (Or.inr (Or.inr (Or.inr z)))) hQ H) (fun z4 => cw_149 hq hL ha hb hc hd (cw_no_f z1 z2 z3 z4) hQ H))))
theorem cw_loop {post : Int32 → St0 → Prop} {mc ms kc ks : Nat} {x0 x1 : Int32} {u : St2} (hA : cw_A (cw_q x0) 0 u) (hy : match u with | (fr, fc, fl, fe, fh, fp, fy, fo, fn, fa, fz, a1, a2, a3, a4, a5, a6, a7, a8, a9, a10, a11, a12, a13, a14, a15, a16, a17, a18, a19, a20, a21) => fy = 0) (H : post 1 ()) : ∃ n, cw_LW post mc ms x0 x1 kc ks n (nI 0) u := by
  refine pk_loop (fun n i s => cw_LW post mc ms x0 x1 kc ks n (nI i) s) (fun i s => cw_A (cw_q x0) i s ∧ (match s with | (fr, fc, fl, fe, fh, fp, fy, fo, fn, fa, fz, a1, a2, a3, a4, a5, a6, a7, a8, a9, a10, a11, a12, a13, a14, a15, a16, a17, a18, a19, a20, a21) => fy = 0)) 4 0 u (by omega) ⟨hA, hy⟩ (fun n s h => ?_) (fun n i s hi h hw => ?_)
  · refine cw_top ?_ H
    obtain ⟨fr, fc, fl, fe, fh, fp, fy, fo, fn, fa, fz, a1, a2, a3, a4, a5, a6, a7, a8, a9, a10, a11, a12, a13, a14, a15, a16, a17, a18, a19, a20, a21⟩ := s
    exact ⟨h.1, Or.inl h.2⟩
  · exact cw_line hi h.1 (fun u' h1 h2 => hw u' ⟨h1, h2⟩)
theorem cw_law {post : Int32 → St0 → Prop} {mc ms : Nat} {x0 x1 : Int32} (h1 : 22 ≤ mc) (h2 : 290 ≤ ms) (H : post 1 ()) : wpL_lawOf post mc ms () x0 x1 := by
  refine ⟨by omega, by omega, 21, 258, by omega, by omega, cw_init (cw_q x0) (by omega) (by omega) (fun u hA hy => ?_)⟩
  obtain ⟨fr, fc, fl, fe, fh, fp, fy, fo, fn, fa, fz, a1, a2, a3, a4, a5, a6, a7, a8, a9, a10, a11, a12, a13, a14, a15, a16, a17, a18, a19, a20, a21⟩ := u
  exact cw_loop hA hy H
theorem cw_at {post : Int32 → Prop} {L : Nat} {xs : Nat → Int32} (i : Nat) {p1 : Int32} (hp : p1 = nI i) (hi : i < 2) (hL : L ≤ 2) (H : ∀ x, post x) : wpL_cellAt post L xs () p1 := by
  subst hp
  exact pk_le L i (fun _ => H _) (fun z => ⟨pk_in i L z, H _⟩)
theorem i_vc (xs : Nat → Int32) (L : Nat) (hL : L ≤ 2) : wpL_law (fun r => r = 1) L xs := by
  unfold wpL_law
  exact cw_at 0 rfl (by omega) hL (fun x => cw_at 1 rfl (by omega) hL (fun y => ⟨188, 2992, by omega, by omega, cw_law (by omega) (by omega) rfl⟩))
end
