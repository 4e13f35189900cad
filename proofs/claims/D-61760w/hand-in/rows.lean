section
/-! pure pictures of both machines, over Nat -/
abbrev ec_A : Type := Nat → Nat
def ec_up (f : ec_A) (k v : Nat) : ec_A := fun i => if i = k then v else f i
theorem ec_up_s {f : ec_A} {k v : Nat} : ec_up f k v k = v := by simp [ec_up]
theorem ec_up_n {f : ec_A} {k v i : Nat} (h : i ≠ k) : ec_up f k v i = f i := by simp [ec_up, h]
theorem ec_up_lt {f : ec_A} {k v B : Nat} (h : ∀ i, i < 12 → f i < B) (hv : v < B) : ∀ i, i < 12 → ec_up f k v i < B := by
  intro i hi
  by_cases e : i = k
  · rw [e, ec_up_s]; exact hv
  · rw [ec_up_n e]; exact h i hi
def ec_lp {S : Type} (f : Nat → S → S) : Nat → Nat → S → S
  | 0, _, s => s
  | n + 1, i, s => ec_lp f n (i + 1) (f i s)
theorem ec_lp_inv {S : Type} (f : Nat → S → S) (I : Nat → S → Prop) (N : Nat) (hs : ∀ i s, i < N → I i s → I (i + 1) (f i s)) :
    ∀ n i s, i + n = N → I i s → I N (ec_lp f n i s) := by
  intro n
  induction n with
  | zero =>
    intro i s h hi
    have e : i = N := by omega
    rw [← e]
    exact hi
  | succ n ih =>
    intro i s h hi
    exact ih (i + 1) (f i s) (by omega) (hs i s (by omega) hi)
/-- a loop of a walk: W at its head, out of W behind it -/
theorem ec_lp_run {S : Type} (f : Nat → S → S) (I P : Nat → S → Prop) (N : Nat) (hI : ∀ i s, i < N → I i s → I (i + 1) (f i s))
    (hs : ∀ i s, i < N → I i s → P (i + 1) (f i s) → P i s) : ∀ n i s, i + n = N → I i s → P N (ec_lp f n i s) → P i s := by
  intro n
  induction n with
  | zero =>
    intro i s h hi hp
    have e : i = N := by omega
    rw [← e] at hp
    exact hp
  | succ n ih =>
    intro i s h hi hp
    exact hs i s (by omega) hi (ih (i + 1) (f i s) (by omega) (hI i s (by omega) hi) hp)
theorem ec_lp_proj {S T : Type} (f : Nat → S → S) (g : Nat → T → T) (π : S → T) (h : ∀ i s, π (f i s) = g i (π s)) :
    ∀ n i s, π (ec_lp f n i s) = ec_lp g n i (π s) := by
  intro n
  induction n with
  | zero => intro i s; rfl
  | succ n ih =>
    intro i s
    show π (ec_lp f n (i + 1) (f i s)) = ec_lp g n (i + 1) (g i (π s))
    rw [ih, h]
/-- the formula -/
def ec_fm (o p q : Nat) : Nat :=
  if o = 0 then p &&& q else if o = 1 then p ||| q else if o = 2 then p ^^^ q else if o = 3 then (p + q) &&& 15
  else if o = 4 then (p + 16 - q) % 16 else if o = 5 then (if p < q then 1 else 0) else if o = 6 then p
  else if o = 7 then 15 - p else if p = 0 then q else 15 - q
theorem ec_fm_lt {o p q : Nat} (hp : p < 16) (hq : q < 16) : ec_fm o p q < 16 := by
  have h1 : p &&& q < 2 ^ 4 := Nat.and_lt_two_pow p hq
  have h2 : p ||| q < 2 ^ 4 := Nat.or_lt_two_pow hp hq
  have h3 : p ^^^ q < 2 ^ 4 := Nat.xor_lt_two_pow hp hq
  have h4 : (p + q) &&& 15 < 2 ^ 4 := Nat.and_lt_two_pow (p + q) (by decide)
  unfold ec_fm
  repeat' split
  all_goals omega
def ec_clr (a w : Nat) : Nat := a &&& (2 ^ w ^^^ 4294967295)
/-- one working out of a signal, and rounds of it -/
def ec_st (so sa sb : ec_A) (F : Nat → Nat → Nat → Nat) (w : Nat) (v : ec_A) : ec_A := if so w = 1 then ec_up v w (F w (v (sa w)) (v (sb w))) else v
def ec_rd (so sa sb : ec_A) (F : Nat → Nat → Nat → Nat) (v : ec_A) : ec_A := ec_lp (ec_st so sa sb F) 12 0 v
def ec_rds (so sa sb : ec_A) (F : Nat → Nat → Nat → Nat) (v : ec_A) : ec_A := ec_lp (fun _ v => ec_rd so sa sb F v) 12 0 v
def ec_mx (p q : Nat) : Nat := (if q < p then p else q) + 1
def ec_LF (_ p q : Nat) : Nat := ec_mx p q
def ec_VF (op : ec_A) (w p q : Nat) : Nat := ec_fm (op w) p q
/-- is k some register's clock -/
def ec_ck (so ck : ec_A) (k : Nat) : Nat → Nat → Bool
  | 0, _ => false
  | n + 1, i => if so i = 2 ∧ ck i = k then true else ec_ck so ck k n (i + 1)
/-- the first system's state: sort values operation sourceA sourceB clock listeners level awake loading coming -/
abbrev XS : Type := ec_A × ec_A × ec_A × ec_A × ec_A × ec_A × ec_A × ec_A × Nat × Nat × ec_A
def xso (σ : XS) : ec_A := σ.1
def xvl (σ : XS) : ec_A := σ.2.1
def xop (σ : XS) : ec_A := σ.2.2.1
def xsa (σ : XS) : ec_A := σ.2.2.2.1
def xsb (σ : XS) : ec_A := σ.2.2.2.2.1
def xck (σ : XS) : ec_A := σ.2.2.2.2.2.1
def xli (σ : XS) : ec_A := σ.2.2.2.2.2.2.1
def xlv (σ : XS) : ec_A := σ.2.2.2.2.2.2.2.1
def xaw (σ : XS) : Nat := σ.2.2.2.2.2.2.2.2.1
def xld (σ : XS) : Nat := σ.2.2.2.2.2.2.2.2.2.1
def xcm (σ : XS) : ec_A := σ.2.2.2.2.2.2.2.2.2.2
def xsVA (σ : XS) (v : ec_A) (a : Nat) : XS := (xso σ, v, xop σ, xsa σ, xsb σ, xck σ, xli σ, xlv σ, a, xld σ, xcm σ)
def xsAw (σ : XS) (a : Nat) : XS := xsVA σ (xvl σ) a
def xsLL (σ : XS) (li lv : ec_A) : XS := (xso σ, xvl σ, xop σ, xsa σ, xsb σ, xck σ, li, lv, xaw σ, xld σ, xcm σ)
def xsLC (σ : XS) (l : Nat) (c : ec_A) : XS := (xso σ, xvl σ, xop σ, xsa σ, xsb σ, xck σ, xli σ, xlv σ, xaw σ, l, c)
def xsDf (σ : XS) (so op sa sb : ec_A) : XS := (so, xvl σ, op, sa, sb, xck σ, xli σ, xlv σ, xaw σ, xld σ, xcm σ)
def xsCk (σ : XS) (ck : ec_A) : XS := (xso σ, xvl σ, xop σ, xsa σ, xsb σ, ck, xli σ, xlv σ, xaw σ, xld σ, xcm σ)
def x_0 : XS := (fun _ => 0, fun _ => 0, fun _ => 0, fun _ => 0, fun _ => 0, fun _ => 0, fun _ => 0, fun _ => 0, 0, 0, fun _ => 0)
def XWF (σ : XS) : Prop := (∀ i, i < 12 → xso σ i < 3) ∧ (∀ i, i < 12 → xvl σ i < 16) ∧ (∀ i, i < 12 → xop σ i < 9) ∧ (∀ i, i < 12 → xsa σ i < 12) ∧ (∀ i, i < 12 → xsb σ i < 12) ∧ (∀ i, i < 12 → xck σ i < 12) ∧ (∀ i, i < 12 → xli σ i < 4096) ∧ (∀ i, i < 12 → xlv σ i < 13) ∧ xaw σ < 4096 ∧ xld σ < 4096 ∧ (∀ i, i < 12 → xcm σ i < 16)
def x_F (σ : XS) (k : Nat) : Nat := ec_fm (xop σ k) (xvl σ (xsa σ k)) (xvl σ (xsb σ k))
def x_put (σ : XS) (k v : Nat) : XS := if xvl σ k = v then σ else xsVA σ (ec_up (xvl σ) k v) (xaw σ ||| xli σ k)
def ec_low (lv : ec_A) (aw i : Nat) (b : Option Nat) : Option Nat := if aw.testBit i then (match b with | none => some i | some j => if lv i < lv j then some i else some j) else b
def x_low (lv : ec_A) (aw : Nat) : Option Nat := ec_lp (ec_low lv aw) 12 0 none
def ec_bI : Option Nat → Int32
  | none => -1
  | some k => nI k
/-- settle: changed, values, awake -/
def ec_se (op sa sb li lv : ec_A) : Nat → Nat → ec_A → Nat → Nat × ec_A × Nat
  | 0, ch, vl, aw => (ch, vl, aw)
  | n + 1, ch, vl, aw => if aw = 0 then (ch, vl, aw) else
      if vl ((x_low lv aw).getD 0) = ec_fm (op ((x_low lv aw).getD 0)) (vl (sa ((x_low lv aw).getD 0))) (vl (sb ((x_low lv aw).getD 0))) then ec_se op sa sb li lv n ch vl (ec_clr aw ((x_low lv aw).getD 0))
      else ec_se op sa sb li lv n (ch + 1) (ec_up vl ((x_low lv aw).getD 0) (ec_fm (op ((x_low lv aw).getD 0)) (vl (sa ((x_low lv aw).getD 0))) (vl (sb ((x_low lv aw).getD 0))))) (ec_clr aw ((x_low lv aw).getD 0) ||| li ((x_low lv aw).getD 0))
def x_se (σ : XS) : Nat × ec_A × Nat := ec_se (xop σ) (xsa σ) (xsb σ) (xli σ) (xlv σ) 12 0 (xvl σ) (xaw σ)
def x_settle (σ : XS) : XS := xsVA σ (x_se σ).2.1 (x_se σ).2.2
/-- connect -/
def ec_cl (i : Nat) (z : ec_A × ec_A) : ec_A × ec_A := (ec_up z.1 i 0, ec_up z.2 i 0)
def ec_ls (so sa sb : ec_A) (w : Nat) (li : ec_A) : ec_A := if so w = 1 then ec_up (ec_up li (sa w) (li (sa w) ||| 2 ^ w)) (sb w) (ec_up li (sa w) (li (sa w) ||| 2 ^ w) (sb w) ||| 2 ^ w) else li
def x_cl (σ : XS) : ec_A × ec_A := ec_lp ec_cl 12 0 (xli σ, xlv σ)
def x_li (σ : XS) : ec_A := ec_lp (ec_ls (xso σ) (xsa σ) (xsb σ)) 12 0 (x_cl σ).1
def x_lv (σ : XS) : ec_A := ec_rds (xso σ) (xsa σ) (xsb σ) ec_LF (x_cl σ).2
def x_connect (σ : XS) : XS := xsLL σ (x_li σ) (x_lv σ)
def x_df (σ : XS) (k w o a b : Nat) : XS := xsDf σ (ec_up (xso σ) k w) (ec_up (xop σ) k o) (ec_up (xsa σ) k a) (ec_up (xsb σ) k b)
def x_wk (σ : XS) (k w : Nat) : XS := if w = 1 then xsAw σ (xaw σ ||| 2 ^ k) else σ
def x_define (σ : XS) (k w o a b : Nat) : XS := x_settle (x_wk (x_connect (x_df σ k w o a b)) k w)
/-- hangingOn -/
def ec_ha (li : ec_A) (w s : Nat) : Nat := if s.testBit w then s ||| li w else s
def x_hang (li : ec_A) (k : Nat) : Nat := ec_lp (fun _ s => ec_lp (ec_ha li) 12 0 s) 12 0 (li k)
def x_leads (σ : XS) (k a : Nat) : Bool := if k = a then true else (x_hang (xli σ) k).testBit a
/-- sample: loading, coming -/
def ec_sm (so vl op sa sb ck : ec_A) (k r : Nat) (z : Nat × ec_A) : Nat × ec_A :=
  if so r = 2 ∧ ck r = k then (if ec_fm (op r) (vl (sa r)) (vl (sb r)) = vl r then z.1 else z.1 ||| 2 ^ r, ec_up z.2 r (ec_fm (op r) (vl (sa r)) (vl (sb r)))) else z
def x_sm (σ : XS) (k : Nat) : Nat × ec_A := ec_lp (ec_sm (xso σ) (xvl σ) (xop σ) (xsa σ) (xsb σ) (xck σ) k) 12 0 (xld σ, xcm σ)
def x_sample (σ : XS) (k : Nat) : XS := xsLC σ (x_sm σ k).1 (x_sm σ k).2
/-- the second phase of a change: changed, values, awake -/
def ec_p2 (li cm : ec_A) (ld r : Nat) (z : Nat × ec_A × Nat) : Nat × ec_A × Nat :=
  if ld.testBit r then (if z.2.1 r = cm r then (z.1 + 1, z.2.1, z.2.2) else (z.1 + 1, ec_up z.2.1 r (cm r), z.2.2 ||| li r)) else z
def x_c1 (σ : XS) (k v : Nat) : XS := if xvl σ k % 2 = 0 ∧ v % 2 = 1 then x_sample (xsLC σ 0 (xcm σ)) k else xsLC σ 0 (xcm σ)
def x_c2 (σ : XS) (k v : Nat) : XS := x_put (x_c1 σ k v) k v
def x_c3 (σ : XS) (k v : Nat) : Nat × ec_A × Nat := ec_lp (ec_p2 (xli (x_c2 σ k v)) (xcm (x_c2 σ k v)) (xld (x_c2 σ k v))) 12 0 (if xvl (x_c1 σ k v) k = v then 0 else 1, xvl (x_c2 σ k v), xaw (x_c2 σ k v))
def x_c4 (σ : XS) (k v : Nat) : XS := xsVA (x_c2 σ k v) (x_c3 σ k v).2.1 (x_c3 σ k v).2.2
def x_chN (σ : XS) (k v : Nat) : Nat := (x_c3 σ k v).1 + (x_se (x_c4 σ k v)).1
def x_change (σ : XS) (k v : Nat) : XS := x_settle (x_c4 σ k v)
def x_regs (ld : Nat) : Nat := ec_lp (fun r c => c + (ld.testBit r).toNat) 12 0 0
def x_pu (k v f : Nat) (_ : Nat) (z : Nat × XS) : Nat × XS :=
  (z.1 + x_regs (xld (x_change z.2 k v)) + x_regs (xld (x_change (x_change z.2 k v) k f)), x_change (x_change z.2 k v) k f)
def ec_tm (n : Int32) : Nat := if n < 0 then 0 else if 16 < n then 16 else n.toNatClampNeg
def x_pulse (σ : XS) (k v t : Nat) : Nat × XS := ec_lp (x_pu k v (xvl σ k)) t 0 (0, σ)
def ec_dp (so lv : ec_A) (w d : Nat) : Nat := if so w = 1 ∧ d < lv w then lv w else d
def x_depth (σ : XS) : Nat := ec_lp (ec_dp (xso σ) (xlv σ)) 12 0 0
/-- arguments -/
def ec_sg (s : Int32) : Prop := ¬ s < 0 ∧ ¬ 11 < s
def ec_ov (o : Int32) : Prop := ¬ o < 0 ∧ ¬ 8 < o
def ec_vv (v : Int32) : Prop := ¬ v < 0 ∧ ¬ 15 < v
def ec_bc (c : Int32) : Prop := ¬ c < 0 ∧ ¬ 143 < c
theorem ec_sg_of {s : Int32} (h : ec_sg s) : ∃ k : Nat, k < 12 ∧ s = nI k := by
  obtain ⟨j, hj, e⟩ := nI_of2 (M := 11) (n := 11) (by decide) h.1 (Int32.not_lt.mp h.2)
  exact ⟨j, by omega, e⟩
theorem ec_ov_of {s : Int32} (h : ec_ov s) : ∃ k : Nat, k < 9 ∧ s = nI k := by
  obtain ⟨j, hj, e⟩ := nI_of2 (M := 8) (n := 8) (by decide) h.1 (Int32.not_lt.mp h.2)
  exact ⟨j, by omega, e⟩
theorem ec_vv_of {s : Int32} (h : ec_vv s) : ∃ k : Nat, k < 16 ∧ s = nI k := by
  obtain ⟨j, hj, e⟩ := nI_of2 (M := 15) (n := 15) (by decide) h.1 (Int32.not_lt.mp h.2)
  exact ⟨j, by omega, e⟩
theorem ec_bc_of {s : Int32} (h : ec_bc s) : ∃ k : Nat, k < 144 ∧ s = nI k := by
  obtain ⟨j, hj, e⟩ := nI_of2 (M := 143) (n := 143) (by decide) h.1 (Int32.not_lt.mp h.2)
  exact ⟨j, by omega, e⟩
/-- the answers, for arguments in range: number and state -/
def x_wire (σ : XS) (k o a b : Nat) : Int32 × XS :=
  if ec_ck (xso σ) (xck σ) k 12 0 then (-3, σ) else if x_leads σ k a = true ∨ x_leads σ k b = true then (-2, σ)
  else (nI (xvl (x_define σ k 1 o a b) k), x_define σ k 1 o a b)
def x_register (σ : XS) (k o a c : Nat) : Int32 × XS :=
  if xso σ (c / 12) ≠ 0 ∨ c / 12 = k ∨ ec_ck (xso σ) (xck σ) k 12 0 = true then (-3, σ)
  else (nI (xvl (x_define (xsCk σ (ec_up (xck σ) k (c / 12))) k 2 o a (c % 12)) k), x_define (xsCk σ (ec_up (xck σ) k (c / 12))) k 2 o a (c % 12))
def x_free (σ : XS) (k : Nat) : Int32 × XS := (nI (xvl (x_define σ k 0 0 k k) k), x_define σ k 0 0 k k)
def x_set (σ : XS) (k v : Nat) : Int32 × XS := if xso σ k = 0 then (nI (x_chN σ k v), x_change σ k v) else (-3, σ)
def x_pulseR (σ : XS) (k v t : Nat) : Int32 × XS := if xso σ k = 0 then (nI (x_pulse σ k v t).1, (x_pulse σ k v t).2) else (-3, σ)
/-- the second system's state: kinds op a b clock values before on -/
abbrev MS : Type := ec_A × ec_A × ec_A × ec_A × ec_A × ec_A × ec_A × ec_A
def mkd (τ : MS) : ec_A := τ.1
def mop (τ : MS) : ec_A := τ.2.1
def ma (τ : MS) : ec_A := τ.2.2.1
def mb (τ : MS) : ec_A := τ.2.2.2.1
def mck (τ : MS) : ec_A := τ.2.2.2.2.1
def mvl (τ : MS) : ec_A := τ.2.2.2.2.2.1
def mbf (τ : MS) : ec_A := τ.2.2.2.2.2.2.1
def mon (τ : MS) : ec_A := τ.2.2.2.2.2.2.2
def msVl (τ : MS) (v : ec_A) : MS := (mkd τ, mop τ, ma τ, mb τ, mck τ, v, mbf τ, mon τ)
def msBf (τ : MS) (v : ec_A) : MS := (mkd τ, mop τ, ma τ, mb τ, mck τ, mvl τ, v, mon τ)
def msOn (τ : MS) (v : ec_A) : MS := (mkd τ, mop τ, ma τ, mb τ, mck τ, mvl τ, mbf τ, v)
def msCk (τ : MS) (v : ec_A) : MS := (mkd τ, mop τ, ma τ, mb τ, v, mvl τ, mbf τ, mon τ)
def msG (τ : MS) (kd op a b : ec_A) : MS := (kd, op, a, b, mck τ, mvl τ, mbf τ, mon τ)
def m_0 : MS := (fun _ => 0, fun _ => 0, fun _ => 0, fun _ => 0, fun _ => 0, fun _ => 0, fun _ => 0, fun _ => 0)
def MWF (τ : MS) : Prop := (∀ i, i < 12 → mkd τ i < 3) ∧ (∀ i, i < 12 → mop τ i < 9) ∧ (∀ i, i < 12 → ma τ i < 12) ∧ (∀ i, i < 12 → mb τ i < 12) ∧ (∀ i, i < 12 → mck τ i < 12) ∧ (∀ i, i < 12 → mvl τ i < 16)
def m_F (τ : MS) (k : Nat) : Nat := ec_fm (mop τ k) (mvl τ (ma τ k)) (mvl τ (mb τ k))
def m_settle (τ : MS) : MS := msVl τ (ec_rds (mkd τ) (ma τ) (mb τ) (ec_VF (mop τ)) (mvl τ))
/-- findHanging -/
def ec_f0 (kd a b : ec_A) (s : Nat) (on : ec_A) : ec_A := ec_up on s (if kd s = 1 then 2 ^ a s ||| 2 ^ b s else 0)
def ec_f1 (s t : Nat) (on : ec_A) : ec_A := if (on s).testBit t then ec_up on s (on s ||| on t) else on
def ec_fd (kd a b on : ec_A) : ec_A := ec_lp (fun _ on => ec_lp (fun s on => ec_lp (ec_f1 s) 12 0 on) 12 0 on) 12 0 (ec_lp (ec_f0 kd a b) 12 0 on)
def m_find (τ : MS) : MS := msOn τ (ec_fd (mkd τ) (ma τ) (mb τ) (mon τ))
def ec_cir (on : ec_A) : Nat → Nat → Bool
  | 0, _ => false
  | n + 1, i => if (on i).testBit i then true else ec_cir on n (i + 1)
def m_give (τ : MS) (k w o a b : Nat) : MS := msG τ (ec_up (mkd τ) k w) (ec_up (mop τ) k o) (ec_up (ma τ) k a) (ec_up (mb τ) k b)
def m_wire (τ : MS) (k o a b : Nat) : Int32 × MS :=
  if ec_ck (mkd τ) (mck τ) k 12 0 then (-3, τ)
  else if ec_cir (mon (m_find (m_give τ k 1 o a b))) 12 0 then (-2, m_give (m_find (m_give τ k 1 o a b)) k (mkd τ k) (mop τ k) (ma τ k) (mb τ k))
  else (nI (mvl (m_settle (m_find (m_give τ k 1 o a b))) k), m_settle (m_find (m_give τ k 1 o a b)))
def m_register (τ : MS) (k o a c : Nat) : Int32 × MS :=
  if mkd τ (c / 12) ≠ 0 ∨ c / 12 = k ∨ ec_ck (mkd τ) (mck τ) k 12 0 = true then (-3, τ)
  else (nI (mvl (m_settle (msCk (m_give τ k 2 o a (c % 12)) (ec_up (mck τ) k (c / 12)))) k), m_settle (msCk (m_give τ k 2 o a (c % 12)) (ec_up (mck τ) k (c / 12))))
def m_fr (τ : MS) (k : Nat) : MS := m_settle (msG τ (ec_up (mkd τ) k 0) (mop τ) (ma τ) (mb τ))
def m_free (τ : MS) (k : Nat) : Int32 × MS := (nI (mvl (m_fr τ k) k), m_fr τ k)
/-- change -/
def ec_bfc (vl : ec_A) (r : Nat) (bf : ec_A) : ec_A := ec_up bf r (vl r)
def ec_onc (op a b vl : ec_A) (r : Nat) (on : ec_A) : ec_A := ec_up on r (ec_fm (op r) (vl (a r)) (vl (b r)))
def ec_rg (kd ck on : ec_A) (ri : Bool) (k r : Nat) (z : Nat × ec_A) : Nat × ec_A :=
  if ri = true ∧ kd r = 2 ∧ ck r = k then (if z.2 r = on r then z.1 else z.1 + 1, ec_up z.2 r (on r)) else z
def m_ri (τ : MS) (k v : Nat) : Bool := decide (mvl τ k % 2 = 0 ∧ v % 2 = 1)
def m_bf (τ : MS) : ec_A := ec_lp (ec_bfc (mvl τ)) 12 0 (mbf τ)
def m_on (τ : MS) : ec_A := ec_lp (ec_onc (mop τ) (ma τ) (mb τ) (mvl τ)) 12 0 (mon τ)
def m_rg (τ : MS) (k v : Nat) : Nat × ec_A := ec_lp (ec_rg (mkd τ) (mck τ) (m_on τ) (m_ri τ k v) k) 12 0 (0, mvl τ)
def m_change (τ : MS) (k v : Nat) : MS := m_settle (msVl (msOn (msBf τ (m_bf τ)) (m_on τ)) (ec_up (m_rg τ k v).2 k v))
def ec_df (vl bf : ec_A) (t n : Nat) : Nat := if vl t = bf t then n else n + 1
def m_setN (τ : MS) : Nat := ec_lp (ec_df (mvl τ) (mbf τ)) 12 0 0
def m_set (τ : MS) (k v : Nat) : Int32 × MS := if mkd τ k = 0 then (nI (m_setN (m_change τ k v)), m_change τ k v) else (-3, τ)
def m_pu (k v f : Nat) (_ : Nat) (z : Nat × MS) : Nat × MS :=
  (z.1 + (m_rg z.2 k v).1 + (m_rg (m_change z.2 k v) k f).1, m_change (m_change z.2 k v) k f)
def m_pulse (τ : MS) (k v t : Nat) : Nat × MS := ec_lp (m_pu k v (mvl τ k)) t 0 (0, τ)
def m_pulseR (τ : MS) (k v t : Nat) : Int32 × MS := if mkd τ k = 0 then (nI (m_pulse τ k v t).1, (m_pulse τ k v t).2) else (-3, τ)
def ec_hs (on : ec_A) (s w z : Nat) : Nat := if (on w).testBit s then z ||| 2 ^ w else z
def m_hang (τ : MS) (s : Nat) : Nat := ec_lp (ec_hs (mon (m_find τ)) s) 12 0 0
/-- depth: most, on -/
def ec_z0 (s : Nat) (on : ec_A) : ec_A := ec_up on s 0
def ec_d1 (kd a b : ec_A) (s : Nat) (z : Nat × ec_A) : Nat × ec_A :=
  (if z.1 < ec_st kd a b ec_LF s z.2 s then ec_st kd a b ec_LF s z.2 s else z.1, ec_st kd a b ec_LF s z.2)
def m_dp (τ : MS) : Nat × ec_A := ec_lp (fun _ z => ec_lp (ec_d1 (mkd τ) (ma τ) (mb τ)) 12 0 z) 12 0 (0, ec_lp ec_z0 12 0 (mon τ))
def m_depth (τ : MS) : MS := msOn τ (m_dp τ).2
end
section
/-! bits, bounds: no program in sight -/
theorem ec_clr_bit (a w x : Nat) (hx : x < 32) : (ec_clr a w).testBit x = (a.testBit x && !decide (w = x)) := by
  unfold ec_clr
  have h : (4294967295 : Nat).testBit x = true := by
    have h2 : (2 ^ 32 - 1 : Nat).testBit x = decide (x < 32) := Nat.testBit_two_pow_sub_one 32 x
    rw [show (4294967295 : Nat) = 2 ^ 32 - 1 from rfl, h2]
    simp [hx]
  rw [Nat.testBit_and, Nat.testBit_xor, Nat.testBit_two_pow, h]
  simp
theorem ec_bit_lt {a x : Nat} (ha : a < 4096) (h : a.testBit x = true) : x < 12 := by
  rcases Nat.lt_or_ge x 12 with q | q
  · exact q
  · have h1 : a < 2 ^ x := Nat.lt_of_lt_of_le (show a < 2 ^ 12 from ha) (Nat.pow_le_pow_right (by decide) q)
    rw [Nat.testBit_lt_two_pow h1] at h
    cases h
theorem ec_clr_lt {a w : Nat} (ha : a < 4096) : ec_clr a w < 4096 := Nat.lt_of_le_of_lt Nat.and_le_left ha
theorem ec_or_lt {a b : Nat} (ha : a < 4096) (hb : b < 4096) : a ||| b < 4096 := Nat.or_lt_two_pow (n := 12) ha hb
theorem ec_pow_lt {k : Nat} (hk : k < 12) : 2 ^ k < 4096 := Nat.pow_lt_pow_right (by decide) hk
theorem ec_low_spec {lv : ec_A} {aw : Nat} (ha : aw < 4096) (h0 : aw ≠ 0) : ∃ w, x_low lv aw = some w ∧ w < 12 ∧ aw.testBit w = true ∧ ∀ y, aw.testBit y = true → lv w ≤ lv y := by
  have key := ec_lp_inv (ec_low lv aw) (fun i b => match b with | none => ∀ y, y < i → aw.testBit y = false | some w => w < 12 ∧ aw.testBit w = true ∧ ∀ y, y < i → aw.testBit y = true → lv w ≤ lv y) 12 ?_ 12 0 none (by omega) (fun y h => absurd h (Nat.not_lt_zero y))
  · unfold x_low
    cases hb : ec_lp (ec_low lv aw) 12 0 none with
    | none =>
      rw [hb] at key
      obtain ⟨i, hi⟩ := Nat.exists_testBit_of_ne_zero h0
      have := key i (ec_bit_lt ha hi)
      rw [this] at hi
      cases hi
    | some w =>
      rw [hb] at key
      exact ⟨w, rfl, key.1, key.2.1, fun y hy => key.2.2 y (ec_bit_lt ha hy) hy⟩
  · intro i b hi h
    unfold ec_low
    by_cases hbit : aw.testBit i = true
    · rw [if_pos hbit]
      cases b with
      | none =>
        refine ⟨hi, hbit, fun y hy hyb => ?_⟩
        by_cases e : y = i
        · rw [e]; exact Nat.le_refl _
        · rw [h y (by omega)] at hyb; cases hyb
      | some j =>
        obtain ⟨h1, h2, h3⟩ := h
        show (match (if lv i < lv j then some i else some j) with | none => _ | some w => _)
        by_cases hl : lv i < lv j
        · rw [if_pos hl]
          refine ⟨hi, hbit, fun y hy hyb => ?_⟩
          by_cases e : y = i
          · rw [e]; exact Nat.le_refl _
          · have := h3 y (by omega) hyb; omega
        · rw [if_neg hl]
          refine ⟨h1, h2, fun y hy hyb => ?_⟩
          by_cases e : y = i
          · rw [e]; omega
          · exact h3 y (by omega) hyb
    · rw [if_neg hbit]
      have hbit : aw.testBit i = false := by simpa using hbit
      cases b with
      | none =>
        intro y hy
        by_cases e : y = i
        · rw [e]; exact hbit
        · exact h y (by omega)
      | some j =>
        obtain ⟨h1, h2, h3⟩ := h
        refine ⟨h1, h2, fun y hy hyb => ?_⟩
        by_cases e : y = i
        · rw [e, hbit] at hyb; cases hyb
        · exact h3 y (by omega) hyb
/-- a rank below 12 that falls along the wires -/
def ec_Ac (so sa sb rk : ec_A) : Prop := (∀ w, w < 12 → rk w < 12) ∧ ∀ w, w < 12 → so w = 1 → rk (sa w) < rk w ∧ rk (sb w) < rk w

section EcLev
variable {so sa sb rk : ec_A} {F : Nat → Nat → Nat → Nat}
/-- the levels stay below the rank + 2 -/
theorem ec_lev_step (hac : ec_Ac so sa sb rk) (ha : ∀ i, i < 12 → sa i < 12) (hb : ∀ i, i < 12 → sb i < 12) {v : ec_A} (h : ∀ w, w < 12 → v w ≤ rk w + 1) (i : Nat) (hi : i < 12) :
    ∀ w, w < 12 → ec_st so sa sb ec_LF i v w ≤ rk w + 1 := by
  intro w hw
  unfold ec_st
  by_cases hs : so i = 1
  · rw [if_pos hs]
    by_cases e : w = i
    · subst e
      rw [ec_up_s]
      have h1 := hac.2 w hw hs
      have h2 := h (sa w) (ha w hw)
      have h3 := h (sb w) (hb w hw)
      show ec_mx _ _ ≤ _
      unfold ec_mx
      split <;> omega
    · rw [ec_up_n e]
      exact h w hw
  · rw [if_neg hs]
    exact h w hw

theorem ec_lev_rd (hac : ec_Ac so sa sb rk) (ha : ∀ i, i < 12 → sa i < 12) (hb : ∀ i, i < 12 → sb i < 12) {v : ec_A} (h : ∀ w, w < 12 → v w ≤ rk w + 1) :
    ∀ w, w < 12 → ec_rd so sa sb ec_LF v w ≤ rk w + 1 :=
  ec_lp_inv (ec_st so sa sb ec_LF) (fun _ v => ∀ w, w < 12 → v w ≤ rk w + 1) 12 (fun i _ hi h => ec_lev_step hac ha hb h i hi) 12 0 v (by omega) h
theorem ec_lev_rds (hac : ec_Ac so sa sb rk) (ha : ∀ i, i < 12 → sa i < 12) (hb : ∀ i, i < 12 → sb i < 12) {v : ec_A} (h : ∀ w, w < 12 → v w ≤ rk w + 1) :
    ∀ w, w < 12 → ec_rds so sa sb ec_LF v w ≤ rk w + 1 :=
  ec_lp_inv (fun _ v => ec_rd so sa sb ec_LF v) (fun _ v => ∀ w, w < 12 → v w ≤ rk w + 1) 12 (fun _ _ _ h => ec_lev_rd hac ha hb h) 12 0 v (by omega) h
theorem ec_st_lt {B : Nat} (hF : ∀ w p q, p < B → q < B → F w p q < B) (ha : ∀ i, i < 12 → sa i < 12) (hb : ∀ i, i < 12 → sb i < 12) {v : ec_A} (h : ∀ w, w < 12 → v w < B) (i : Nat) (hi : i < 12) :
    ∀ w, w < 12 → ec_st so sa sb F i v w < B := by
  unfold ec_st
  split
  · exact ec_up_lt h (hF _ _ _ (h _ (ha i hi)) (h _ (hb i hi)))
  · exact h
theorem ec_rd_lt {B : Nat} (hF : ∀ w p q, p < B → q < B → F w p q < B) (ha : ∀ i, i < 12 → sa i < 12) (hb : ∀ i, i < 12 → sb i < 12) {v : ec_A} (h : ∀ w, w < 12 → v w < B) :
    ∀ w, w < 12 → ec_rd so sa sb F v w < B :=
  ec_lp_inv (ec_st so sa sb F) (fun _ v => ∀ w, w < 12 → v w < B) 12 (fun i _ hi h => ec_st_lt hF ha hb h i hi) 12 0 v (by omega) h
theorem ec_rds_lt {B : Nat} (hF : ∀ w p q, p < B → q < B → F w p q < B) (ha : ∀ i, i < 12 → sa i < 12) (hb : ∀ i, i < 12 → sb i < 12) {v : ec_A} (h : ∀ w, w < 12 → v w < B) :
    ∀ w, w < 12 → ec_rds so sa sb F v w < B :=
  ec_lp_inv (fun _ v => ec_rd so sa sb F v) (fun _ v => ∀ w, w < 12 → v w < B) 12 (fun _ _ _ h => ec_rd_lt hF ha hb h) 12 0 v (by omega) h
theorem ec_VF_lt {op : ec_A} : ∀ w p q, p < 16 → q < 16 → ec_VF op w p q < 16 := fun _ _ _ hp hq => ec_fm_lt hp hq
end EcLev
theorem ec_se_lt {op sa sb li lv : ec_A} (ha : ∀ i, i < 12 → sa i < 12) (hb : ∀ i, i < 12 → sb i < 12) (hli : ∀ i, i < 12 → li i < 4096) :
    ∀ n ch (vl : ec_A) aw, (∀ i, i < 12 → vl i < 16) → aw < 4096 → (∀ i, i < 12 → (ec_se op sa sb li lv n ch vl aw).2.1 i < 16) ∧ (ec_se op sa sb li lv n ch vl aw).2.2 < 4096 := by
  intro n
  induction n with
  | zero => intro ch vl aw h1 h2; exact ⟨h1, h2⟩
  | succ n ih =>
    intro ch vl aw h1 h2
    unfold ec_se
    by_cases h0 : aw = 0
    · rw [if_pos h0]; exact ⟨h1, h2⟩
    · rw [if_neg h0]
      obtain ⟨w, hlow, hw, -, -⟩ := ec_low_spec (lv := lv) h2 h0
      rw [hlow]
      simp only [Option.getD_some]
      split
      · exact ih _ _ _ h1 (ec_clr_lt h2)
      · exact ih _ _ _ (ec_up_lt h1 (ec_fm_lt (h1 _ (ha w hw)) (h1 _ (hb w hw)))) (ec_or_lt (ec_clr_lt h2) (hli w hw))
theorem xwf_VA {σ : XS} (h : XWF σ) {v : ec_A} {a : Nat} (hv : ∀ i, i < 12 → v i < 16) (ha : a < 4096) : XWF (xsVA σ v a) := by
  obtain ⟨h1, h2, h3, h4, h5, h6, h7, h8, h9, h10, h11⟩ := h
  exact ⟨h1, hv, h3, h4, h5, h6, h7, h8, ha, h10, h11⟩
theorem xwf_put {σ : XS} (h : XWF σ) {k v : Nat} (hk : k < 12) (hv : v < 16) : XWF (x_put σ k v) := by
  unfold x_put
  split
  · exact h
  · exact xwf_VA h (ec_up_lt h.2.1 hv) (ec_or_lt h.2.2.2.2.2.2.2.2.1 (h.2.2.2.2.2.2.1 k hk))
theorem xwf_settle {σ : XS} (h : XWF σ) : XWF (x_settle σ) := by
  have := ec_se_lt (op := xop σ) (lv := xlv σ) h.2.2.2.1 h.2.2.2.2.1 h.2.2.2.2.2.2.1 12 0 (xvl σ) (xaw σ) h.2.1 h.2.2.2.2.2.2.2.2.1
  exact xwf_VA h this.1 this.2
theorem xwf_LC {σ : XS} (h : XWF σ) {l : Nat} {c : ec_A} (hl : l < 4096) (hc : ∀ i, i < 12 → c i < 16) : XWF (xsLC σ l c) := by
  obtain ⟨h1, h2, h3, h4, h5, h6, h7, h8, h9, h10, h11⟩ := h
  exact ⟨h1, h2, h3, h4, h5, h6, h7, h8, h9, hl, hc⟩
theorem ec_sm_lt {so vl op sa sb ck : ec_A} {k : Nat} (hv : ∀ i, i < 12 → vl i < 16) (ha : ∀ i, i < 12 → sa i < 12) (hb : ∀ i, i < 12 → sb i < 12) {z : Nat × ec_A} (h : z.1 < 4096 ∧ ∀ i, i < 12 → z.2 i < 16) (r : Nat) (hr : r < 12) :
    (ec_sm so vl op sa sb ck k r z).1 < 4096 ∧ ∀ i, i < 12 → (ec_sm so vl op sa sb ck k r z).2 i < 16 := by
  unfold ec_sm
  split
  · refine ⟨?_, ec_up_lt h.2 (ec_fm_lt (hv _ (ha r hr)) (hv _ (hb r hr)))⟩
    show (if _ then _ else _) < 4096
    split
    · exact h.1
    · exact ec_or_lt h.1 (ec_pow_lt hr)
  · exact h
theorem xwf_sample {σ : XS} (h : XWF σ) (k : Nat) : XWF (x_sample σ k) := by
  have := ec_lp_inv (ec_sm (xso σ) (xvl σ) (xop σ) (xsa σ) (xsb σ) (xck σ) k) (fun _ z => z.1 < 4096 ∧ ∀ i, i < 12 → z.2 i < 16) 12 (fun r z hr hz => ec_sm_lt h.2.1 h.2.2.2.1 h.2.2.2.2.1 hz r hr) 12 0 (xld σ, xcm σ) (by omega) ⟨h.2.2.2.2.2.2.2.2.2.1, h.2.2.2.2.2.2.2.2.2.2⟩
  exact xwf_LC h this.1 this.2
theorem xwf_c1 {σ : XS} (h : XWF σ) (k v : Nat) : XWF (x_c1 σ k v) := by
  have h0 : XWF (xsLC σ 0 (xcm σ)) := xwf_LC h (by decide) h.2.2.2.2.2.2.2.2.2.2
  unfold x_c1
  split
  · exact xwf_sample h0 k
  · exact h0
theorem xwf_c2 {σ : XS} (h : XWF σ) {k v : Nat} (hk : k < 12) (hv : v < 16) : XWF (x_c2 σ k v) := xwf_put (xwf_c1 h k v) hk hv
theorem ec_p2_lt {li cm : ec_A} {ld : Nat} (hl : ∀ i, i < 12 → li i < 4096) (hc : ∀ i, i < 12 → cm i < 16) {z : Nat × ec_A × Nat} (h : (∀ i, i < 12 → z.2.1 i < 16) ∧ z.2.2 < 4096) (r : Nat) (hr : r < 12) :
    (∀ i, i < 12 → (ec_p2 li cm ld r z).2.1 i < 16) ∧ (ec_p2 li cm ld r z).2.2 < 4096 := by
  unfold ec_p2
  split
  · split
    · exact h
    · exact ⟨ec_up_lt h.1 (hc r hr), ec_or_lt h.2 (hl r hr)⟩
  · exact h
theorem xwf_c4 {σ : XS} (h : XWF σ) {k v : Nat} (hk : k < 12) (hv : v < 16) : XWF (x_c4 σ k v) := by
  have h2 := xwf_c2 h hk hv
  have := ec_lp_inv (ec_p2 (xli (x_c2 σ k v)) (xcm (x_c2 σ k v)) (xld (x_c2 σ k v))) (fun _ z => (∀ i, i < 12 → z.2.1 i < 16) ∧ z.2.2 < 4096) 12 (fun r z hr hz => ec_p2_lt h2.2.2.2.2.2.2.1 h2.2.2.2.2.2.2.2.2.2.2 hz r hr) 12 0 (if xvl (x_c1 σ k v) k = v then 0 else 1, xvl (x_c2 σ k v), xaw (x_c2 σ k v)) (by omega) ⟨h2.2.1, h2.2.2.2.2.2.2.2.2.1⟩
  exact xwf_VA h2 this.1 this.2
theorem xwf_change {σ : XS} (h : XWF σ) {k v : Nat} (hk : k < 12) (hv : v < 16) : XWF (x_change σ k v) := xwf_settle (xwf_c4 h hk hv)
theorem mwf_vl {τ : MS} (h : MWF τ) {v : ec_A} (hv : ∀ i, i < 12 → v i < 16) : MWF (msVl τ v) := by
  obtain ⟨h1, h2, h3, h4, h5, h6⟩ := h
  exact ⟨h1, h2, h3, h4, h5, hv⟩
theorem mwf_settle {τ : MS} (h : MWF τ) : MWF (m_settle τ) := mwf_vl h (ec_rds_lt ec_VF_lt h.2.2.1 h.2.2.2.1 h.2.2.2.2.2)
theorem mwf_on {τ : MS} (h : MWF τ) (v : ec_A) : MWF (msOn τ v) := h
theorem mwf_bf {τ : MS} (h : MWF τ) (v : ec_A) : MWF (msBf τ v) := h
theorem mwf_give {τ : MS} (h : MWF τ) {k w o a b : Nat} (hw : w < 3) (ho : o < 9) (ha : a < 12) (hb : b < 12) : MWF (m_give τ k w o a b) := by
  obtain ⟨h1, h2, h3, h4, h5, h6⟩ := h
  exact ⟨ec_up_lt h1 hw, ec_up_lt h2 ho, ec_up_lt h3 ha, ec_up_lt h4 hb, h5, h6⟩
theorem ec_onc_lt {op a b vl : ec_A} (hv : ∀ i, i < 12 → vl i < 16) (ha : ∀ i, i < 12 → a i < 12) (hb : ∀ i, i < 12 → b i < 12) {on : ec_A} {r : Nat} (hr : r < 12) (h : ∀ i, i < r → on i < 16) : ∀ i, i < r + 1 → ec_onc op a b vl r on i < 16 := by
  intro i hi
  unfold ec_onc
  by_cases e : i = r
  · rw [e, ec_up_s]; exact ec_fm_lt (hv _ (ha r hr)) (hv _ (hb r hr))
  · rw [ec_up_n e]; exact h i (by omega)
theorem m_on_lt {τ : MS} (h : MWF τ) : ∀ i, i < 12 → m_on τ i < 16 :=
  ec_lp_inv (ec_onc (mop τ) (ma τ) (mb τ) (mvl τ)) (fun r on => ∀ i, i < r → on i < 16) 12 (fun r on hr hh => ec_onc_lt h.2.2.2.2.2 h.2.2.1 h.2.2.2.1 hr hh) 12 0 (mon τ) (by omega) (fun i hi => absurd hi (Nat.not_lt_zero i))
theorem ec_rg_lt {kd ck on : ec_A} {ri : Bool} {k : Nat} (ho : ∀ i, i < 12 → on i < 16) {z : Nat × ec_A} (h : ∀ i, i < 12 → z.2 i < 16) (r : Nat) (hr : r < 12) : ∀ i, i < 12 → (ec_rg kd ck on ri k r z).2 i < 16 := by
  unfold ec_rg
  split
  · exact ec_up_lt h (ho r hr)
  · exact h
theorem m_rg_lt {τ : MS} (h : MWF τ) (k v : Nat) : ∀ i, i < 12 → (m_rg τ k v).2 i < 16 :=
  ec_lp_inv (ec_rg (mkd τ) (mck τ) (m_on τ) (m_ri τ k v) k) (fun _ z => ∀ i, i < 12 → z.2 i < 16) 12 (fun r z hr hz => ec_rg_lt (m_on_lt h) hz r hr) 12 0 (0, mvl τ) (by omega) h.2.2.2.2.2
theorem mwf_change {τ : MS} (h : MWF τ) {k v : Nat} (hv : v < 16) : MWF (m_change τ k v) := mwf_settle (mwf_vl (mwf_on (mwf_bf h _) _) (ec_up_lt (m_rg_lt h k v) hv))
theorem ec_f1_lt {on : ec_A} (h : ∀ i, i < 12 → on i < 4096) {s t : Nat} (hs : s < 12) (ht : t < 12) : ∀ i, i < 12 → ec_f1 s t on i < 4096 := by
  unfold ec_f1
  split
  · exact ec_up_lt h (ec_or_lt (h s hs) (h t ht))
  · exact h
theorem ec_f0_lt {kd a b : ec_A} (ha : ∀ i, i < 12 → a i < 12) (hb : ∀ i, i < 12 → b i < 12) {on : ec_A} {s : Nat} (hs : s < 12) (h : ∀ i, i < s → on i < 4096) : ∀ i, i < s + 1 → ec_f0 kd a b s on i < 4096 := by
  intro i hi
  unfold ec_f0
  by_cases e : i = s
  · rw [e, ec_up_s]
    split
    · exact ec_or_lt (ec_pow_lt (ha s hs)) (ec_pow_lt (hb s hs))
    · decide
  · rw [ec_up_n e]; exact h i (by omega)
theorem ec_fd_lt {kd a b on : ec_A} (ha : ∀ i, i < 12 → a i < 12) (hb : ∀ i, i < 12 → b i < 12) : ∀ i, i < 12 → ec_fd kd a b on i < 4096 := by
  refine ec_lp_inv (fun _ on => ec_lp (fun s on => ec_lp (ec_f1 s) 12 0 on) 12 0 on) (fun _ on => ∀ i, i < 12 → on i < 4096) 12 ?_ 12 0 _ (by omega) ?_
  · intro _ on _ h
    refine ec_lp_inv (fun s on => ec_lp (ec_f1 s) 12 0 on) (fun _ on => ∀ i, i < 12 → on i < 4096) 12 ?_ 12 0 on (by omega) h
    intro s on hs h
    exact ec_lp_inv (ec_f1 s) (fun _ on => ∀ i, i < 12 → on i < 4096) 12 (fun t on ht h => ec_f1_lt h hs ht) 12 0 on (by omega) h
  · exact ec_lp_inv (ec_f0 kd a b) (fun s on => ∀ i, i < s → on i < 4096) 12 (fun s on hs h => ec_f0_lt ha hb hs h) 12 0 on (by omega) (fun i hi => absurd hi (Nat.not_lt_zero i))
end
section
/-! the tables' words (out of the kit's SKELETON, PART A) -/
/-- a private method of a class that the tables say can be made, by its rows of tables_1 -/
def lw_okq (q : MethodName × Nat) : Prop := (q.1.cls ≠ "java/lang/invoke/MethodHandle" ∧ q.1.cls ≠ "java/lang/invoke/VarHandle") ∧ Cond.instantiable q.1.cls q.2 ∈ tables_1 ∧ Cond.privateMethod q.1 ∈ tables_1 ∧ Cond.instanceMethod q.1 ∈ tables_1
set_option maxRecDepth 100000
theorem lw_p0 : lw_okq (⟨"EventCircuit", "isSignal", "(I)Z"⟩, 11) := ⟨⟨by decide +kernel, by decide +kernel⟩, List.mem_of_getElem? (i := 4) rfl, List.mem_of_getElem? (i := 52) rfl, List.mem_of_getElem? (i := 53) rfl⟩
theorem lw_p1 : lw_okq (⟨"EventCircuit", "isClock", "(I)Z"⟩, 11) := ⟨⟨by decide +kernel, by decide +kernel⟩, List.mem_of_getElem? (i := 4) rfl, List.mem_of_getElem? (i := 56) rfl, List.mem_of_getElem? (i := 57) rfl⟩
theorem lw_p2 : lw_okq (⟨"EventCircuit", "leadsTo", "(II)Z"⟩, 11) := ⟨⟨by decide +kernel, by decide +kernel⟩, List.mem_of_getElem? (i := 4) rfl, List.mem_of_getElem? (i := 60) rfl, List.mem_of_getElem? (i := 61) rfl⟩
theorem lw_p3 : lw_okq (⟨"EventCircuit", "hangingOn", "(I)I"⟩, 11) := ⟨⟨by decide +kernel, by decide +kernel⟩, List.mem_of_getElem? (i := 4) rfl, List.mem_of_getElem? (i := 64) rfl, List.mem_of_getElem? (i := 65) rfl⟩
theorem lw_p4 : lw_okq (⟨"EventCircuit", "define", "(IIIII)V"⟩, 11) := ⟨⟨by decide +kernel, by decide +kernel⟩, List.mem_of_getElem? (i := 4) rfl, List.mem_of_getElem? (i := 68) rfl, List.mem_of_getElem? (i := 69) rfl⟩
theorem lw_p5 : lw_okq (⟨"EventCircuit", "connect", "()V"⟩, 11) := ⟨⟨by decide +kernel, by decide +kernel⟩, List.mem_of_getElem? (i := 4) rfl, List.mem_of_getElem? (i := 72) rfl, List.mem_of_getElem? (i := 73) rfl⟩
theorem lw_p6 : lw_okq (⟨"EventCircuit", "settle", "()I"⟩, 11) := ⟨⟨by decide +kernel, by decide +kernel⟩, List.mem_of_getElem? (i := 4) rfl, List.mem_of_getElem? (i := 76) rfl, List.mem_of_getElem? (i := 77) rfl⟩
theorem lw_p7 : lw_okq (⟨"EventCircuit", "lowestAwake", "()I"⟩, 11) := ⟨⟨by decide +kernel, by decide +kernel⟩, List.mem_of_getElem? (i := 4) rfl, List.mem_of_getElem? (i := 80) rfl, List.mem_of_getElem? (i := 81) rfl⟩
theorem lw_p8 : lw_okq (⟨"EventCircuit", "formulaOf", "(I)I"⟩, 11) := ⟨⟨by decide +kernel, by decide +kernel⟩, List.mem_of_getElem? (i := 4) rfl, List.mem_of_getElem? (i := 84) rfl, List.mem_of_getElem? (i := 85) rfl⟩
theorem lw_p9 : lw_okq (⟨"EventCircuit", "put", "(II)V"⟩, 11) := ⟨⟨by decide +kernel, by decide +kernel⟩, List.mem_of_getElem? (i := 4) rfl, List.mem_of_getElem? (i := 88) rfl, List.mem_of_getElem? (i := 89) rfl⟩
theorem lw_p10 : lw_okq (⟨"EventCircuit", "change", "(II)I"⟩, 11) := ⟨⟨by decide +kernel, by decide +kernel⟩, List.mem_of_getElem? (i := 4) rfl, List.mem_of_getElem? (i := 104) rfl, List.mem_of_getElem? (i := 105) rfl⟩
theorem lw_p11 : lw_okq (⟨"EventCircuit", "sample", "(I)V"⟩, 11) := ⟨⟨by decide +kernel, by decide +kernel⟩, List.mem_of_getElem? (i := 4) rfl, List.mem_of_getElem? (i := 108) rfl, List.mem_of_getElem? (i := 109) rfl⟩
theorem lw_p12 : lw_okq (⟨"EventCircuit", "registersChanged", "()I"⟩, 11) := ⟨⟨by decide +kernel, by decide +kernel⟩, List.mem_of_getElem? (i := 4) rfl, List.mem_of_getElem? (i := 116) rfl, List.mem_of_getElem? (i := 117) rfl⟩
theorem lw_p13 : lw_okq (⟨"EventCircuitModel", "isSignal", "(I)Z"⟩, 8) := ⟨⟨by decide +kernel, by decide +kernel⟩, List.mem_of_getElem? (i := 136) rfl, List.mem_of_getElem? (i := 171) rfl, List.mem_of_getElem? (i := 172) rfl⟩
theorem lw_p14 : lw_okq (⟨"EventCircuitModel", "isClock", "(I)Z"⟩, 8) := ⟨⟨by decide +kernel, by decide +kernel⟩, List.mem_of_getElem? (i := 136) rfl, List.mem_of_getElem? (i := 175) rfl, List.mem_of_getElem? (i := 176) rfl⟩
theorem lw_p15 : lw_okq (⟨"EventCircuitModel", "give", "(IIIII)V"⟩, 8) := ⟨⟨by decide +kernel, by decide +kernel⟩, List.mem_of_getElem? (i := 136) rfl, List.mem_of_getElem? (i := 179) rfl, List.mem_of_getElem? (i := 180) rfl⟩
def lw_privs_1 : List (MethodName × Nat) := [(⟨"EventCircuit", "isSignal", "(I)Z"⟩, 11), (⟨"EventCircuit", "isClock", "(I)Z"⟩, 11), (⟨"EventCircuit", "leadsTo", "(II)Z"⟩, 11), (⟨"EventCircuit", "hangingOn", "(I)I"⟩, 11), (⟨"EventCircuit", "define", "(IIIII)V"⟩, 11), (⟨"EventCircuit", "connect", "()V"⟩, 11), (⟨"EventCircuit", "settle", "()I"⟩, 11), (⟨"EventCircuit", "lowestAwake", "()I"⟩, 11), (⟨"EventCircuit", "formulaOf", "(I)I"⟩, 11), (⟨"EventCircuit", "put", "(II)V"⟩, 11), (⟨"EventCircuit", "change", "(II)I"⟩, 11), (⟨"EventCircuit", "sample", "(I)V"⟩, 11), (⟨"EventCircuit", "registersChanged", "()I"⟩, 11), (⟨"EventCircuitModel", "isSignal", "(I)Z"⟩, 8), (⟨"EventCircuitModel", "isClock", "(I)Z"⟩, 8), (⟨"EventCircuitModel", "give", "(IIIII)V"⟩, 8)]
theorem lw_r1 : ∀ q ∈ lw_privs_1, lw_okq q := List.forall_mem_cons.mpr ⟨lw_p0, List.forall_mem_cons.mpr ⟨lw_p1, List.forall_mem_cons.mpr ⟨lw_p2, List.forall_mem_cons.mpr ⟨lw_p3, List.forall_mem_cons.mpr ⟨lw_p4, List.forall_mem_cons.mpr ⟨lw_p5, List.forall_mem_cons.mpr ⟨lw_p6, List.forall_mem_cons.mpr ⟨lw_p7, List.forall_mem_cons.mpr ⟨lw_p8, List.forall_mem_cons.mpr ⟨lw_p9, List.forall_mem_cons.mpr ⟨lw_p10, List.forall_mem_cons.mpr ⟨lw_p11, List.forall_mem_cons.mpr ⟨lw_p12, List.forall_mem_cons.mpr ⟨lw_p13, List.forall_mem_cons.mpr ⟨lw_p14, List.forall_mem_cons.mpr ⟨lw_p15, fun _ h => absurd h List.not_mem_nil⟩⟩⟩⟩⟩⟩⟩⟩⟩⟩⟩⟩⟩⟩⟩⟩
theorem lw_p16 : lw_okq (⟨"EventCircuitModel", "hasCircle", "()Z"⟩, 8) := ⟨⟨by decide +kernel, by decide +kernel⟩, List.mem_of_getElem? (i := 136) rfl, List.mem_of_getElem? (i := 183) rfl, List.mem_of_getElem? (i := 184) rfl⟩
theorem lw_p17 : lw_okq (⟨"EventCircuitModel", "findHanging", "()V"⟩, 8) := ⟨⟨by decide +kernel, by decide +kernel⟩, List.mem_of_getElem? (i := 136) rfl, List.mem_of_getElem? (i := 187) rfl, List.mem_of_getElem? (i := 188) rfl⟩
theorem lw_p18 : lw_okq (⟨"EventCircuitModel", "settle", "()V"⟩, 8) := ⟨⟨by decide +kernel, by decide +kernel⟩, List.mem_of_getElem? (i := 136) rfl, List.mem_of_getElem? (i := 191) rfl, List.mem_of_getElem? (i := 192) rfl⟩
theorem lw_p19 : lw_okq (⟨"EventCircuitModel", "formula", "(I)I"⟩, 8) := ⟨⟨by decide +kernel, by decide +kernel⟩, List.mem_of_getElem? (i := 136) rfl, List.mem_of_getElem? (i := 195) rfl, List.mem_of_getElem? (i := 196) rfl⟩
theorem lw_p20 : lw_okq (⟨"EventCircuitModel", "status", "(II)I"⟩, 8) := ⟨⟨by decide +kernel, by decide +kernel⟩, List.mem_of_getElem? (i := 136) rfl, List.mem_of_getElem? (i := 211) rfl, List.mem_of_getElem? (i := 212) rfl⟩
theorem lw_p21 : lw_okq (⟨"EventCircuitModel", "change", "(II)I"⟩, 8) := ⟨⟨by decide +kernel, by decide +kernel⟩, List.mem_of_getElem? (i := 136) rfl, List.mem_of_getElem? (i := 215) rfl, List.mem_of_getElem? (i := 216) rfl⟩
def lw_privs_2 : List (MethodName × Nat) := [(⟨"EventCircuitModel", "hasCircle", "()Z"⟩, 8), (⟨"EventCircuitModel", "findHanging", "()V"⟩, 8), (⟨"EventCircuitModel", "settle", "()V"⟩, 8), (⟨"EventCircuitModel", "formula", "(I)I"⟩, 8), (⟨"EventCircuitModel", "status", "(II)I"⟩, 8), (⟨"EventCircuitModel", "change", "(II)I"⟩, 8)]
theorem lw_r2 : ∀ q ∈ lw_privs_2, lw_okq q := List.forall_mem_cons.mpr ⟨lw_p16, List.forall_mem_cons.mpr ⟨lw_p17, List.forall_mem_cons.mpr ⟨lw_p18, List.forall_mem_cons.mpr ⟨lw_p19, List.forall_mem_cons.mpr ⟨lw_p20, List.forall_mem_cons.mpr ⟨lw_p21, fun _ h => absurd h List.not_mem_nil⟩⟩⟩⟩⟩⟩
def lw_privs : List (MethodName × Nat) := lw_privs_1 ++ (lw_privs_2)
def lw_tbl : List Cond := k2_sels lw_privs ++ tables_1
theorem lw_privs_ok : ∀ q ∈ lw_privs, lw_okq q := by
  show ∀ q ∈ lw_privs_1 ++ (lw_privs_2), lw_okq q
  exact List.forall_mem_append.mpr ⟨lw_r1, lw_r2⟩
-- ===== ONE list of words for every method: the tables' words that hold all through a run =====
def lw_all : List Cond := lw_tbl.filter goodWord
/-- a word of the tables by its place: claim/WORDS.tsv -/
theorem lw_w {w : Cond} (i : Nat) (h : lw_tbl[i]? = some w) (g : goodWord w = true) : w ∈ lw_all := List.mem_filter.mpr ⟨List.mem_of_getElem? h, g⟩
theorem lw_all_tbl {w : Cond} (h : w ∈ lw_all) : w ∈ lw_tbl := (List.mem_filter.mp h).1
theorem lw_self : GoodIn lw_all lw_all := fun w h => ⟨h, good_of_word (List.mem_filter.mp h).2⟩
/-- a class's field words, by their places -/
theorem lw_in (ws : List Cond) (ps : List Nat) (hp : ws = ps.filterMap (fun i => lw_tbl[i]?)) (hg : ws.all goodWord = true) : ∀ w ∈ ws, w ∈ lw_all := by
  intro w h
  have h1 := List.all_eq_true.mp hg w h
  rw [hp] at h
  obtain ⟨i, -, hi⟩ := List.mem_filterMap.mp h
  exact lw_w i hi h1
/-- the words of a contract for the method y with code b, L locals, answer r -/
abbrev ws_ (y : MethodName) (b : ByteArray) (L : Nat) (r : Option FieldType) : List Cond := Cond.code y b L r :: lw_all
theorem lw_meth {y : MethodName} {b : ByteArray} {L : Nat} {r : Option FieldType} (h : Cond.code y b L r ∈ lw_all) : GoodIn lw_all (ws_ y b L r) := by
  intro w hw
  rcases List.mem_cons.mp hw with e | e
  · rw [e]
    exact lw_self _ h
  · exact lw_self _ e
theorem lw_app {a c : List Cond} (ha : ∀ w ∈ a, w ∈ lw_all) (hc : GoodIn lw_all c) : GoodIn lw_all (a ++ c) := by
  intro w hw
  rcases List.mem_append.mp hw with e | e
  · exact lw_self w (ha w e)
  · exact hc w e
/-- what a call through an object asks: cwV n hts (lw_V ..) -/
theorem lw_V {own : String} {idx : Nat} {C : String} {y : MethodName} {b : ByteArray} {L : Nat} {r : Option FieldType} (h1 : Cond.methodLink own idx y ∈ lw_all) (h2 : Cond.instanceMethod y ∈ lw_all) (h3 : Cond.selects C y y ∈ lw_all) (h4 : Cond.initialized C ∈ lw_all) (h5 : Cond.code y b L r ∈ lw_all) : GoodIn lw_all (wsV own idx C y (ws_ y b L r)) := by
  refine lw_app ?_ (lw_meth h5)
  intro w hw
  simp only [List.mem_cons, List.not_mem_nil, or_false] at hw
  rcases hw with e | e | e | e
  · rw [e]; exact h1
  · rw [e]; exact h2
  · rw [e]; exact h3
  · rw [e]; exact h4
/-- what a static call asks: va_cwS n hts (lw_S ..) -/
theorem lw_S {own : String} {idx : Nat} {y : MethodName} {b : ByteArray} {L : Nat} {r : Option FieldType} (h1 : Cond.methodLink own idx y ∈ lw_all) (h2 : Cond.static y ∈ lw_all) (h3 : Cond.initialized y.cls ∈ lw_all) (h4 : Cond.code y b L r ∈ lw_all) : GoodIn lw_all (va_wsS own idx y (ws_ y b L r)) := by
  refine lw_app ?_ (lw_meth h4)
  intro w hw
  simp only [List.mem_cons, List.not_mem_nil, or_false] at hw
  rcases hw with e | e | e
  · rw [e]; exact h1
  · rw [e]; exact h2
  · rw [e]; exact h3
/-- the words of a contract for a method WITH HANDLERS (hh: its table) -/
abbrev wsW_ (y : MethodName) (b : ByteArray) (L : Nat) (r : Option FieldType) (hh : List (Nat × Nat × Nat × Nat)) : List Cond := Cond.codeWith y b L r hh :: lw_all
theorem lw_methW {y : MethodName} {b : ByteArray} {L : Nat} {r : Option FieldType} {hh : List (Nat × Nat × Nat × Nat)} (h : Cond.codeWith y b L r hh ∈ lw_all) : GoodIn lw_all (wsW_ y b L r hh) := by
  intro w hw
  rcases List.mem_cons.mp hw with e | e
  · rw [e]
    exact lw_self _ h
  · exact lw_self _ e
/-- any list of words by their places (lw_in), good -/
theorem lw_good {ws : List Cond} (h : ∀ w ∈ ws, w ∈ lw_all) : GoodIn lw_all ws := fun w hw => lw_self w (h w hw)
/-- what a call of a method with handlers asks: vx_cwVW n hts (lw_VW ..), vx_cwSW n hts (lw_SW ..) -/
theorem lw_VW {own : String} {idx : Nat} {C : String} {y : MethodName} {b : ByteArray} {L : Nat} {r : Option FieldType} {hh : List (Nat × Nat × Nat × Nat)} (h1 : Cond.methodLink own idx y ∈ lw_all) (h2 : Cond.instanceMethod y ∈ lw_all) (h3 : Cond.selects C y y ∈ lw_all) (h4 : Cond.initialized C ∈ lw_all) (h5 : Cond.codeWith y b L r hh ∈ lw_all) : GoodIn lw_all (wsV own idx C y (wsW_ y b L r hh)) := by
  refine lw_app ?_ (lw_methW h5)
  intro w hw
  simp only [List.mem_cons, List.not_mem_nil, or_false] at hw
  rcases hw with e | e | e | e
  · rw [e]; exact h1
  · rw [e]; exact h2
  · rw [e]; exact h3
  · rw [e]; exact h4
theorem lw_SW {own : String} {idx : Nat} {y : MethodName} {b : ByteArray} {L : Nat} {r : Option FieldType} {hh : List (Nat × Nat × Nat × Nat)} (h1 : Cond.methodLink own idx y ∈ lw_all) (h2 : Cond.static y ∈ lw_all) (h3 : Cond.initialized y.cls ∈ lw_all) (h4 : Cond.codeWith y b L r hh ∈ lw_all) : GoodIn lw_all (va_wsS own idx y (wsW_ y b L r hh)) := by
  refine lw_app ?_ (lw_methW h4)
  intro w hw
  simp only [List.mem_cons, List.not_mem_nil, or_false] at hw
  rcases hw with e | e | e
  · rw [e]; exact h1
  · rw [e]; exact h2
  · rw [e]; exact h3
/-- a word by its place in its run of the tables -/
theorem lw_at {r : List Cond} (hr : ∀ w ∈ r, w ∈ lw_tbl) {w : Cond} (i : Nat) (h : r[i]? = some w) : w ∈ lw_tbl := hr w (List.mem_of_getElem? h)
theorem lw_g {w : Cond} (h : w ∈ lw_tbl) (g : goodWord w = true) : w ∈ lw_all := List.mem_filter.mpr ⟨h, g⟩
theorem lw_ms : ∀ w ∈ k2_sels lw_privs, w ∈ lw_tbl := fun w h => show w ∈ k2_sels lw_privs ++ tables_1 from List.mem_append_left _ h
theorem lw_m0 : ∀ w ∈ tables_1, w ∈ lw_tbl := fun w h => show w ∈ k2_sels lw_privs ++ tables_1 from List.mem_append_right (k2_sels lw_privs) h
theorem qs0 : (Cond.selects "EventCircuit" ⟨"EventCircuit", "isSignal", "(I)Z"⟩ ⟨"EventCircuit", "isSignal", "(I)Z"⟩) ∈ lw_all := lw_g (lw_at lw_ms 0 rfl) rfl
theorem qs1 : (Cond.selects "EventCircuit" ⟨"EventCircuit", "isClock", "(I)Z"⟩ ⟨"EventCircuit", "isClock", "(I)Z"⟩) ∈ lw_all := lw_g (lw_at lw_ms 1 rfl) rfl
theorem qs2 : (Cond.selects "EventCircuit" ⟨"EventCircuit", "leadsTo", "(II)Z"⟩ ⟨"EventCircuit", "leadsTo", "(II)Z"⟩) ∈ lw_all := lw_g (lw_at lw_ms 2 rfl) rfl
theorem qs3 : (Cond.selects "EventCircuit" ⟨"EventCircuit", "hangingOn", "(I)I"⟩ ⟨"EventCircuit", "hangingOn", "(I)I"⟩) ∈ lw_all := lw_g (lw_at lw_ms 3 rfl) rfl
theorem qs4 : (Cond.selects "EventCircuit" ⟨"EventCircuit", "define", "(IIIII)V"⟩ ⟨"EventCircuit", "define", "(IIIII)V"⟩) ∈ lw_all := lw_g (lw_at lw_ms 4 rfl) rfl
theorem qs5 : (Cond.selects "EventCircuit" ⟨"EventCircuit", "connect", "()V"⟩ ⟨"EventCircuit", "connect", "()V"⟩) ∈ lw_all := lw_g (lw_at lw_ms 5 rfl) rfl
theorem qs6 : (Cond.selects "EventCircuit" ⟨"EventCircuit", "settle", "()I"⟩ ⟨"EventCircuit", "settle", "()I"⟩) ∈ lw_all := lw_g (lw_at lw_ms 6 rfl) rfl
theorem qs7 : (Cond.selects "EventCircuit" ⟨"EventCircuit", "lowestAwake", "()I"⟩ ⟨"EventCircuit", "lowestAwake", "()I"⟩) ∈ lw_all := lw_g (lw_at lw_ms 7 rfl) rfl
theorem qs8 : (Cond.selects "EventCircuit" ⟨"EventCircuit", "formulaOf", "(I)I"⟩ ⟨"EventCircuit", "formulaOf", "(I)I"⟩) ∈ lw_all := lw_g (lw_at lw_ms 8 rfl) rfl
theorem qs9 : (Cond.selects "EventCircuit" ⟨"EventCircuit", "put", "(II)V"⟩ ⟨"EventCircuit", "put", "(II)V"⟩) ∈ lw_all := lw_g (lw_at lw_ms 9 rfl) rfl
theorem qs10 : (Cond.selects "EventCircuit" ⟨"EventCircuit", "change", "(II)I"⟩ ⟨"EventCircuit", "change", "(II)I"⟩) ∈ lw_all := lw_g (lw_at lw_ms 10 rfl) rfl
theorem qs11 : (Cond.selects "EventCircuit" ⟨"EventCircuit", "sample", "(I)V"⟩ ⟨"EventCircuit", "sample", "(I)V"⟩) ∈ lw_all := lw_g (lw_at lw_ms 11 rfl) rfl
theorem qs12 : (Cond.selects "EventCircuit" ⟨"EventCircuit", "registersChanged", "()I"⟩ ⟨"EventCircuit", "registersChanged", "()I"⟩) ∈ lw_all := lw_g (lw_at lw_ms 12 rfl) rfl
theorem qs13 : (Cond.selects "EventCircuitModel" ⟨"EventCircuitModel", "isSignal", "(I)Z"⟩ ⟨"EventCircuitModel", "isSignal", "(I)Z"⟩) ∈ lw_all := lw_g (lw_at lw_ms 13 rfl) rfl
theorem qs14 : (Cond.selects "EventCircuitModel" ⟨"EventCircuitModel", "isClock", "(I)Z"⟩ ⟨"EventCircuitModel", "isClock", "(I)Z"⟩) ∈ lw_all := lw_g (lw_at lw_ms 14 rfl) rfl
theorem qs15 : (Cond.selects "EventCircuitModel" ⟨"EventCircuitModel", "give", "(IIIII)V"⟩ ⟨"EventCircuitModel", "give", "(IIIII)V"⟩) ∈ lw_all := lw_g (lw_at lw_ms 15 rfl) rfl
theorem qs16 : (Cond.selects "EventCircuitModel" ⟨"EventCircuitModel", "hasCircle", "()Z"⟩ ⟨"EventCircuitModel", "hasCircle", "()Z"⟩) ∈ lw_all := lw_g (lw_at lw_ms 16 rfl) rfl
theorem qs17 : (Cond.selects "EventCircuitModel" ⟨"EventCircuitModel", "findHanging", "()V"⟩ ⟨"EventCircuitModel", "findHanging", "()V"⟩) ∈ lw_all := lw_g (lw_at lw_ms 17 rfl) rfl
theorem qs18 : (Cond.selects "EventCircuitModel" ⟨"EventCircuitModel", "settle", "()V"⟩ ⟨"EventCircuitModel", "settle", "()V"⟩) ∈ lw_all := lw_g (lw_at lw_ms 18 rfl) rfl
theorem qs19 : (Cond.selects "EventCircuitModel" ⟨"EventCircuitModel", "formula", "(I)I"⟩ ⟨"EventCircuitModel", "formula", "(I)I"⟩) ∈ lw_all := lw_g (lw_at lw_ms 19 rfl) rfl
theorem qs20 : (Cond.selects "EventCircuitModel" ⟨"EventCircuitModel", "status", "(II)I"⟩ ⟨"EventCircuitModel", "status", "(II)I"⟩) ∈ lw_all := lw_g (lw_at lw_ms 20 rfl) rfl
theorem qs21 : (Cond.selects "EventCircuitModel" ⟨"EventCircuitModel", "change", "(II)I"⟩ ⟨"EventCircuitModel", "change", "(II)I"⟩) ∈ lw_all := lw_g (lw_at lw_ms 21 rfl) rfl
end
section
/-! names and words (out of claim/names) -/
set_option maxRecDepth 100000
def RJ0 : String := "java/lang/Object"
abbrev cJ0_init : ByteArray := object_method_1_code
def yJ0_init : MethodName := ⟨RJ0, "<init>", "()V"⟩
theorem q31 : (Jvm.Cond.instanceMethod ({ cls := "java/lang/Object", name := "<init>", desc := "()V" } : Jvm.MethodName)) ∈ lw_all := lw_g (lw_at lw_m0 9 rfl) rfl
theorem q32 : (Jvm.Cond.code ({ cls := "java/lang/Object", name := "<init>", desc := "()V" } : Jvm.MethodName) object_method_1_code (1 : Nat) (Option.none : Option Jvm.ClassFile.FieldType)) ∈ lw_all := lw_g (lw_at lw_m0 10 rfl) rfl
def RX0 : String := "EventCircuit"
def TX0 : u_T := fun k => match k with
  | 0 => ("EventCircuit", "sort", "[B", true)
  | 1 => ("EventCircuit", "values", "[B", true)
  | 2 => ("EventCircuit", "operation", "[B", true)
  | 3 => ("EventCircuit", "sourceA", "[B", true)
  | 4 => ("EventCircuit", "sourceB", "[B", true)
  | 5 => ("EventCircuit", "clock", "[B", true)
  | 6 => ("EventCircuit", "listeners", "[I", true)
  | 7 => ("EventCircuit", "level", "[B", true)
  | 8 => ("EventCircuit", "awake", "I", false)
  | 9 => ("EventCircuit", "loading", "I", false)
  | _ => ("EventCircuit", "coming", "[B", true)
def tyX0 : Nat → FieldType := fun k => match k with
  | 0 => .array .byte
  | 1 => .array .byte
  | 2 => .array .byte
  | 3 => .array .byte
  | 4 => .array .byte
  | 5 => .array .byte
  | 6 => .array .int
  | 7 => .array .byte
  | 8 => .int
  | 9 => .int
  | _ => .array .byte
abbrev wsX00 : List Cond := u_ws RX0 TX0 11
theorem nmX0 : ∀ a, a < 11 → ∀ b, b < 11 → a ≠ b → (TX0 a).2.1 ≠ (TX0 b).2.1 := by decide +kernel
theorem tyX0_ok : ∀ k, k < 11 → parseFieldDescriptor (TX0 k).2.2.1 = some (tyX0 k) := by decide +kernel
abbrev cX0_init : ByteArray := prog_1_method_1_code
def yX0_init : MethodName := ⟨RX0, "<init>", "()V"⟩
abbrev cX0_wire : ByteArray := prog_1_method_2_code
def yX0_wire : MethodName := ⟨RX0, "wire", "(IIII)I"⟩
abbrev cX0_isSignal : ByteArray := prog_1_method_5_code
def yX0_isSignal : MethodName := ⟨RX0, "isSignal", "(I)Z"⟩
abbrev cX0_isClock : ByteArray := prog_1_method_6_code
def yX0_isClock : MethodName := ⟨RX0, "isClock", "(I)Z"⟩
abbrev cX0_leadsTo : ByteArray := prog_1_method_7_code
def yX0_leadsTo : MethodName := ⟨RX0, "leadsTo", "(II)Z"⟩
abbrev cX0_hangingOn : ByteArray := prog_1_method_17_code
def yX0_hangingOn : MethodName := ⟨RX0, "hangingOn", "(I)I"⟩
abbrev cX0_define : ByteArray := prog_1_method_8_code
def yX0_define : MethodName := ⟨RX0, "define", "(IIIII)V"⟩
abbrev cX0_connect : ByteArray := prog_1_method_9_code
def yX0_connect : MethodName := ⟨RX0, "connect", "()V"⟩
abbrev cX0_settle : ByteArray := prog_1_method_22_code
def yX0_settle : MethodName := ⟨RX0, "settle", "()I"⟩
abbrev cX0_lowestAwake : ByteArray := prog_1_method_23_code
def yX0_lowestAwake : MethodName := ⟨RX0, "lowestAwake", "()I"⟩
abbrev cX0_formulaOf : ByteArray := prog_1_method_18_code
def yX0_formulaOf : MethodName := ⟨RX0, "formulaOf", "(I)I"⟩
abbrev cX0_put : ByteArray := prog_1_method_21_code
def yX0_put : MethodName := ⟨RX0, "put", "(II)V"⟩
abbrev cX0_register : ByteArray := prog_1_method_3_code
def yX0_register : MethodName := ⟨RX0, "register", "(IIII)I"⟩
abbrev cX0_free : ByteArray := prog_1_method_4_code
def yX0_free : MethodName := ⟨RX0, "free", "(I)I"⟩
abbrev cX0_set : ByteArray := prog_1_method_10_code
def yX0_set : MethodName := ⟨RX0, "set", "(II)I"⟩
abbrev cX0_change : ByteArray := prog_1_method_19_code
def yX0_change : MethodName := ⟨RX0, "change", "(II)I"⟩
abbrev cX0_sample : ByteArray := prog_1_method_20_code
def yX0_sample : MethodName := ⟨RX0, "sample", "(I)V"⟩
abbrev cX0_pulse : ByteArray := prog_1_method_11_code
def yX0_pulse : MethodName := ⟨RX0, "pulse", "(III)I"⟩
abbrev cX0_registersChanged : ByteArray := prog_1_method_12_code
def yX0_registersChanged : MethodName := ⟨RX0, "registersChanged", "()I"⟩
abbrev cX0_value : ByteArray := prog_1_method_13_code
def yX0_value : MethodName := ⟨RX0, "value", "(I)I"⟩
abbrev cX0_kind : ByteArray := prog_1_method_14_code
def yX0_kind : MethodName := ⟨RX0, "kind", "(I)I"⟩
abbrev cX0_hanging : ByteArray := prog_1_method_15_code
def yX0_hanging : MethodName := ⟨RX0, "hanging", "(I)I"⟩
abbrev cX0_depth : ByteArray := prog_1_method_16_code
def yX0_depth : MethodName := ⟨RX0, "depth", "()I"⟩
theorem q23 : (Jvm.Cond.initialized "EventCircuit") ∈ lw_all := lw_g (lw_at lw_m0 1 rfl) rfl
theorem q26 : (Jvm.Cond.instantiable "EventCircuit" (11 : Nat)) ∈ lw_all := lw_g (lw_at lw_m0 4 rfl) rfl
theorem q28 : (Jvm.Cond.instanceMethod ({ cls := "EventCircuit", name := "<init>", desc := "()V" } : Jvm.MethodName)) ∈ lw_all := lw_g (lw_at lw_m0 6 rfl) rfl
theorem q29 : (Jvm.Cond.code ({ cls := "EventCircuit", name := "<init>", desc := "()V" } : Jvm.MethodName) prog_1_method_1_code (1 : Nat) (Option.none : Option Jvm.ClassFile.FieldType)) ∈ lw_all := lw_g (lw_at lw_m0 7 rfl) rfl
theorem q30 : (Jvm.Cond.methodLink "EventCircuit" (1 : Nat) ({ cls := "java/lang/Object", name := "<init>", desc := "()V" } : Jvm.MethodName)) ∈ lw_all := lw_g (lw_at lw_m0 8 rfl) rfl
theorem q33 : (Jvm.Cond.fieldLink "EventCircuit" (7 : Nat) "EventCircuit" "sort" "[B") ∈ lw_all := lw_g (lw_at lw_m0 11 rfl) rfl
theorem q34 : (Jvm.Cond.fieldLink "EventCircuit" (13 : Nat) "EventCircuit" "values" "[B") ∈ lw_all := lw_g (lw_at lw_m0 12 rfl) rfl
theorem q35 : (Jvm.Cond.fieldLink "EventCircuit" (16 : Nat) "EventCircuit" "operation" "[B") ∈ lw_all := lw_g (lw_at lw_m0 13 rfl) rfl
theorem q36 : (Jvm.Cond.fieldLink "EventCircuit" (19 : Nat) "EventCircuit" "sourceA" "[B") ∈ lw_all := lw_g (lw_at lw_m0 14 rfl) rfl
theorem q37 : (Jvm.Cond.fieldLink "EventCircuit" (22 : Nat) "EventCircuit" "sourceB" "[B") ∈ lw_all := lw_g (lw_at lw_m0 15 rfl) rfl
theorem q38 : (Jvm.Cond.fieldLink "EventCircuit" (25 : Nat) "EventCircuit" "clock" "[B") ∈ lw_all := lw_g (lw_at lw_m0 16 rfl) rfl
theorem q39 : (Jvm.Cond.fieldLink "EventCircuit" (28 : Nat) "EventCircuit" "listeners" "[I") ∈ lw_all := lw_g (lw_at lw_m0 17 rfl) rfl
theorem q40 : (Jvm.Cond.fieldLink "EventCircuit" (32 : Nat) "EventCircuit" "level" "[B") ∈ lw_all := lw_g (lw_at lw_m0 18 rfl) rfl
theorem q41 : (Jvm.Cond.fieldLink "EventCircuit" (60 : Nat) "EventCircuit" "awake" "I") ∈ lw_all := lw_g (lw_at lw_m0 19 rfl) rfl
theorem q42 : (Jvm.Cond.fieldLink "EventCircuit" (75 : Nat) "EventCircuit" "loading" "I") ∈ lw_all := lw_g (lw_at lw_m0 20 rfl) rfl
theorem q43 : (Jvm.Cond.fieldLink "EventCircuit" (35 : Nat) "EventCircuit" "coming" "[B") ∈ lw_all := lw_g (lw_at lw_m0 21 rfl) rfl
theorem q44 : (Jvm.Cond.laysFinal "EventCircuit" "EventCircuit" "sort" "[B") ∈ lw_all := lw_g (lw_at lw_m0 22 rfl) rfl
theorem q45 : (Jvm.Cond.soleField "EventCircuit" "sort") ∈ lw_all := lw_g (lw_at lw_m0 23 rfl) rfl
theorem q46 : (Jvm.Cond.laysFinal "EventCircuit" "EventCircuit" "values" "[B") ∈ lw_all := lw_g (lw_at lw_m0 24 rfl) rfl
theorem q47 : (Jvm.Cond.soleField "EventCircuit" "values") ∈ lw_all := lw_g (lw_at lw_m0 25 rfl) rfl
theorem q48 : (Jvm.Cond.laysFinal "EventCircuit" "EventCircuit" "operation" "[B") ∈ lw_all := lw_g (lw_at lw_m0 26 rfl) rfl
theorem q49 : (Jvm.Cond.soleField "EventCircuit" "operation") ∈ lw_all := lw_g (lw_at lw_m0 27 rfl) rfl
theorem q50 : (Jvm.Cond.laysFinal "EventCircuit" "EventCircuit" "sourceA" "[B") ∈ lw_all := lw_g (lw_at lw_m0 28 rfl) rfl
theorem q51 : (Jvm.Cond.soleField "EventCircuit" "sourceA") ∈ lw_all := lw_g (lw_at lw_m0 29 rfl) rfl
theorem q52 : (Jvm.Cond.laysFinal "EventCircuit" "EventCircuit" "sourceB" "[B") ∈ lw_all := lw_g (lw_at lw_m0 30 rfl) rfl
theorem q53 : (Jvm.Cond.soleField "EventCircuit" "sourceB") ∈ lw_all := lw_g (lw_at lw_m0 31 rfl) rfl
theorem q54 : (Jvm.Cond.laysFinal "EventCircuit" "EventCircuit" "clock" "[B") ∈ lw_all := lw_g (lw_at lw_m0 32 rfl) rfl
theorem q55 : (Jvm.Cond.soleField "EventCircuit" "clock") ∈ lw_all := lw_g (lw_at lw_m0 33 rfl) rfl
theorem q56 : (Jvm.Cond.laysFinal "EventCircuit" "EventCircuit" "listeners" "[I") ∈ lw_all := lw_g (lw_at lw_m0 34 rfl) rfl
theorem q57 : (Jvm.Cond.soleField "EventCircuit" "listeners") ∈ lw_all := lw_g (lw_at lw_m0 35 rfl) rfl
theorem q58 : (Jvm.Cond.laysFinal "EventCircuit" "EventCircuit" "level" "[B") ∈ lw_all := lw_g (lw_at lw_m0 36 rfl) rfl
theorem q59 : (Jvm.Cond.soleField "EventCircuit" "level") ∈ lw_all := lw_g (lw_at lw_m0 37 rfl) rfl
theorem q60 : (Jvm.Cond.lays "EventCircuit" "EventCircuit" "awake" "I") ∈ lw_all := lw_g (lw_at lw_m0 38 rfl) rfl
theorem q61 : (Jvm.Cond.soleField "EventCircuit" "awake") ∈ lw_all := lw_g (lw_at lw_m0 39 rfl) rfl
theorem q62 : (Jvm.Cond.lays "EventCircuit" "EventCircuit" "loading" "I") ∈ lw_all := lw_g (lw_at lw_m0 40 rfl) rfl
theorem q63 : (Jvm.Cond.soleField "EventCircuit" "loading") ∈ lw_all := lw_g (lw_at lw_m0 41 rfl) rfl
theorem q64 : (Jvm.Cond.laysFinal "EventCircuit" "EventCircuit" "coming" "[B") ∈ lw_all := lw_g (lw_at lw_m0 42 rfl) rfl
theorem q65 : (Jvm.Cond.soleField "EventCircuit" "coming") ∈ lw_all := lw_g (lw_at lw_m0 43 rfl) rfl
theorem q66 : (Jvm.Cond.superclass "EventCircuit" "java/lang/Object") ∈ lw_all := lw_g (lw_at lw_m0 44 rfl) rfl
theorem q70 : (Jvm.Cond.instanceMethod ({ cls := "EventCircuit", name := "wire", desc := "(IIII)I" } : Jvm.MethodName)) ∈ lw_all := lw_g (lw_at lw_m0 48 rfl) rfl
theorem q71 : (Jvm.Cond.selects "EventCircuit" ({ cls := "EventCircuit", name := "wire", desc := "(IIII)I" } : Jvm.MethodName) ({ cls := "EventCircuit", name := "wire", desc := "(IIII)I" } : Jvm.MethodName)) ∈ lw_all := lw_g (lw_at lw_m0 49 rfl) rfl
theorem q72 : (Jvm.Cond.code ({ cls := "EventCircuit", name := "wire", desc := "(IIII)I" } : Jvm.MethodName) prog_1_method_2_code (5 : Nat) (Option.some Jvm.ClassFile.FieldType.int)) ∈ lw_all := lw_g (lw_at lw_m0 50 rfl) rfl
theorem q73 : (Jvm.Cond.methodLink "EventCircuit" (38 : Nat) ({ cls := "EventCircuit", name := "isSignal", desc := "(I)Z" } : Jvm.MethodName)) ∈ lw_all := lw_g (lw_at lw_m0 51 rfl) rfl
theorem q74 : (Jvm.Cond.privateMethod ({ cls := "EventCircuit", name := "isSignal", desc := "(I)Z" } : Jvm.MethodName)) ∈ lw_tbl := lw_at lw_m0 52 rfl
theorem q75 : (Jvm.Cond.instanceMethod ({ cls := "EventCircuit", name := "isSignal", desc := "(I)Z" } : Jvm.MethodName)) ∈ lw_all := lw_g (lw_at lw_m0 53 rfl) rfl
theorem q76 : (Jvm.Cond.code ({ cls := "EventCircuit", name := "isSignal", desc := "(I)Z" } : Jvm.MethodName) prog_1_method_5_code (2 : Nat) (Option.some Jvm.ClassFile.FieldType.boolean)) ∈ lw_all := lw_g (lw_at lw_m0 54 rfl) rfl
theorem q77 : (Jvm.Cond.methodLink "EventCircuit" (42 : Nat) ({ cls := "EventCircuit", name := "isClock", desc := "(I)Z" } : Jvm.MethodName)) ∈ lw_all := lw_g (lw_at lw_m0 55 rfl) rfl
theorem q78 : (Jvm.Cond.privateMethod ({ cls := "EventCircuit", name := "isClock", desc := "(I)Z" } : Jvm.MethodName)) ∈ lw_tbl := lw_at lw_m0 56 rfl
theorem q79 : (Jvm.Cond.instanceMethod ({ cls := "EventCircuit", name := "isClock", desc := "(I)Z" } : Jvm.MethodName)) ∈ lw_all := lw_g (lw_at lw_m0 57 rfl) rfl
theorem q80 : (Jvm.Cond.code ({ cls := "EventCircuit", name := "isClock", desc := "(I)Z" } : Jvm.MethodName) prog_1_method_6_code (3 : Nat) (Option.some Jvm.ClassFile.FieldType.boolean)) ∈ lw_all := lw_g (lw_at lw_m0 58 rfl) rfl
theorem q81 : (Jvm.Cond.methodLink "EventCircuit" (45 : Nat) ({ cls := "EventCircuit", name := "leadsTo", desc := "(II)Z" } : Jvm.MethodName)) ∈ lw_all := lw_g (lw_at lw_m0 59 rfl) rfl
theorem q82 : (Jvm.Cond.privateMethod ({ cls := "EventCircuit", name := "leadsTo", desc := "(II)Z" } : Jvm.MethodName)) ∈ lw_tbl := lw_at lw_m0 60 rfl
theorem q83 : (Jvm.Cond.instanceMethod ({ cls := "EventCircuit", name := "leadsTo", desc := "(II)Z" } : Jvm.MethodName)) ∈ lw_all := lw_g (lw_at lw_m0 61 rfl) rfl
theorem q84 : (Jvm.Cond.code ({ cls := "EventCircuit", name := "leadsTo", desc := "(II)Z" } : Jvm.MethodName) prog_1_method_7_code (4 : Nat) (Option.some Jvm.ClassFile.FieldType.boolean)) ∈ lw_all := lw_g (lw_at lw_m0 62 rfl) rfl
theorem q85 : (Jvm.Cond.methodLink "EventCircuit" (53 : Nat) ({ cls := "EventCircuit", name := "hangingOn", desc := "(I)I" } : Jvm.MethodName)) ∈ lw_all := lw_g (lw_at lw_m0 63 rfl) rfl
theorem q86 : (Jvm.Cond.privateMethod ({ cls := "EventCircuit", name := "hangingOn", desc := "(I)I" } : Jvm.MethodName)) ∈ lw_tbl := lw_at lw_m0 64 rfl
theorem q87 : (Jvm.Cond.instanceMethod ({ cls := "EventCircuit", name := "hangingOn", desc := "(I)I" } : Jvm.MethodName)) ∈ lw_all := lw_g (lw_at lw_m0 65 rfl) rfl
theorem q88 : (Jvm.Cond.code ({ cls := "EventCircuit", name := "hangingOn", desc := "(I)I" } : Jvm.MethodName) prog_1_method_17_code (5 : Nat) (Option.some Jvm.ClassFile.FieldType.int)) ∈ lw_all := lw_g (lw_at lw_m0 66 rfl) rfl
theorem q89 : (Jvm.Cond.methodLink "EventCircuit" (49 : Nat) ({ cls := "EventCircuit", name := "define", desc := "(IIIII)V" } : Jvm.MethodName)) ∈ lw_all := lw_g (lw_at lw_m0 67 rfl) rfl
theorem q90 : (Jvm.Cond.privateMethod ({ cls := "EventCircuit", name := "define", desc := "(IIIII)V" } : Jvm.MethodName)) ∈ lw_tbl := lw_at lw_m0 68 rfl
theorem q91 : (Jvm.Cond.instanceMethod ({ cls := "EventCircuit", name := "define", desc := "(IIIII)V" } : Jvm.MethodName)) ∈ lw_all := lw_g (lw_at lw_m0 69 rfl) rfl
theorem q92 : (Jvm.Cond.code ({ cls := "EventCircuit", name := "define", desc := "(IIIII)V" } : Jvm.MethodName) prog_1_method_8_code (6 : Nat) (Option.none : Option Jvm.ClassFile.FieldType)) ∈ lw_all := lw_g (lw_at lw_m0 70 rfl) rfl
theorem q93 : (Jvm.Cond.methodLink "EventCircuit" (57 : Nat) ({ cls := "EventCircuit", name := "connect", desc := "()V" } : Jvm.MethodName)) ∈ lw_all := lw_g (lw_at lw_m0 71 rfl) rfl
theorem q94 : (Jvm.Cond.privateMethod ({ cls := "EventCircuit", name := "connect", desc := "()V" } : Jvm.MethodName)) ∈ lw_tbl := lw_at lw_m0 72 rfl
theorem q95 : (Jvm.Cond.instanceMethod ({ cls := "EventCircuit", name := "connect", desc := "()V" } : Jvm.MethodName)) ∈ lw_all := lw_g (lw_at lw_m0 73 rfl) rfl
theorem q96 : (Jvm.Cond.code ({ cls := "EventCircuit", name := "connect", desc := "()V" } : Jvm.MethodName) prog_1_method_9_code (4 : Nat) (Option.none : Option Jvm.ClassFile.FieldType)) ∈ lw_all := lw_g (lw_at lw_m0 74 rfl) rfl
theorem q97 : (Jvm.Cond.methodLink "EventCircuit" (64 : Nat) ({ cls := "EventCircuit", name := "settle", desc := "()I" } : Jvm.MethodName)) ∈ lw_all := lw_g (lw_at lw_m0 75 rfl) rfl
theorem q98 : (Jvm.Cond.privateMethod ({ cls := "EventCircuit", name := "settle", desc := "()I" } : Jvm.MethodName)) ∈ lw_tbl := lw_at lw_m0 76 rfl
theorem q99 : (Jvm.Cond.instanceMethod ({ cls := "EventCircuit", name := "settle", desc := "()I" } : Jvm.MethodName)) ∈ lw_all := lw_g (lw_at lw_m0 77 rfl) rfl
theorem q100 : (Jvm.Cond.code ({ cls := "EventCircuit", name := "settle", desc := "()I" } : Jvm.MethodName) prog_1_method_22_code (6 : Nat) (Option.some Jvm.ClassFile.FieldType.int)) ∈ lw_all := lw_g (lw_at lw_m0 78 rfl) rfl
theorem q101 : (Jvm.Cond.methodLink "EventCircuit" (89 : Nat) ({ cls := "EventCircuit", name := "lowestAwake", desc := "()I" } : Jvm.MethodName)) ∈ lw_all := lw_g (lw_at lw_m0 79 rfl) rfl
theorem q102 : (Jvm.Cond.privateMethod ({ cls := "EventCircuit", name := "lowestAwake", desc := "()I" } : Jvm.MethodName)) ∈ lw_tbl := lw_at lw_m0 80 rfl
theorem q103 : (Jvm.Cond.instanceMethod ({ cls := "EventCircuit", name := "lowestAwake", desc := "()I" } : Jvm.MethodName)) ∈ lw_all := lw_g (lw_at lw_m0 81 rfl) rfl
theorem q104 : (Jvm.Cond.code ({ cls := "EventCircuit", name := "lowestAwake", desc := "()I" } : Jvm.MethodName) prog_1_method_23_code (3 : Nat) (Option.some Jvm.ClassFile.FieldType.int)) ∈ lw_all := lw_g (lw_at lw_m0 82 rfl) rfl
theorem q105 : (Jvm.Cond.methodLink "EventCircuit" (86 : Nat) ({ cls := "EventCircuit", name := "formulaOf", desc := "(I)I" } : Jvm.MethodName)) ∈ lw_all := lw_g (lw_at lw_m0 83 rfl) rfl
theorem q106 : (Jvm.Cond.privateMethod ({ cls := "EventCircuit", name := "formulaOf", desc := "(I)I" } : Jvm.MethodName)) ∈ lw_tbl := lw_at lw_m0 84 rfl
theorem q107 : (Jvm.Cond.instanceMethod ({ cls := "EventCircuit", name := "formulaOf", desc := "(I)I" } : Jvm.MethodName)) ∈ lw_all := lw_g (lw_at lw_m0 85 rfl) rfl
theorem q108 : (Jvm.Cond.code ({ cls := "EventCircuit", name := "formulaOf", desc := "(I)I" } : Jvm.MethodName) prog_1_method_18_code (5 : Nat) (Option.some Jvm.ClassFile.FieldType.int)) ∈ lw_all := lw_g (lw_at lw_m0 86 rfl) rfl
theorem q109 : (Jvm.Cond.methodLink "EventCircuit" (82 : Nat) ({ cls := "EventCircuit", name := "put", desc := "(II)V" } : Jvm.MethodName)) ∈ lw_all := lw_g (lw_at lw_m0 87 rfl) rfl
theorem q110 : (Jvm.Cond.privateMethod ({ cls := "EventCircuit", name := "put", desc := "(II)V" } : Jvm.MethodName)) ∈ lw_tbl := lw_at lw_m0 88 rfl
theorem q111 : (Jvm.Cond.instanceMethod ({ cls := "EventCircuit", name := "put", desc := "(II)V" } : Jvm.MethodName)) ∈ lw_all := lw_g (lw_at lw_m0 89 rfl) rfl
theorem q112 : (Jvm.Cond.code ({ cls := "EventCircuit", name := "put", desc := "(II)V" } : Jvm.MethodName) prog_1_method_21_code (3 : Nat) (Option.none : Option Jvm.ClassFile.FieldType)) ∈ lw_all := lw_g (lw_at lw_m0 90 rfl) rfl
theorem q114 : (Jvm.Cond.instanceMethod ({ cls := "EventCircuit", name := "register", desc := "(IIII)I" } : Jvm.MethodName)) ∈ lw_all := lw_g (lw_at lw_m0 92 rfl) rfl
theorem q115 : (Jvm.Cond.selects "EventCircuit" ({ cls := "EventCircuit", name := "register", desc := "(IIII)I" } : Jvm.MethodName) ({ cls := "EventCircuit", name := "register", desc := "(IIII)I" } : Jvm.MethodName)) ∈ lw_all := lw_g (lw_at lw_m0 93 rfl) rfl
theorem q116 : (Jvm.Cond.code ({ cls := "EventCircuit", name := "register", desc := "(IIII)I" } : Jvm.MethodName) prog_1_method_3_code (6 : Nat) (Option.some Jvm.ClassFile.FieldType.int)) ∈ lw_all := lw_g (lw_at lw_m0 94 rfl) rfl
theorem q118 : (Jvm.Cond.instanceMethod ({ cls := "EventCircuit", name := "free", desc := "(I)I" } : Jvm.MethodName)) ∈ lw_all := lw_g (lw_at lw_m0 96 rfl) rfl
theorem q119 : (Jvm.Cond.selects "EventCircuit" ({ cls := "EventCircuit", name := "free", desc := "(I)I" } : Jvm.MethodName) ({ cls := "EventCircuit", name := "free", desc := "(I)I" } : Jvm.MethodName)) ∈ lw_all := lw_g (lw_at lw_m0 97 rfl) rfl
theorem q120 : (Jvm.Cond.code ({ cls := "EventCircuit", name := "free", desc := "(I)I" } : Jvm.MethodName) prog_1_method_4_code (2 : Nat) (Option.some Jvm.ClassFile.FieldType.int)) ∈ lw_all := lw_g (lw_at lw_m0 98 rfl) rfl
theorem q122 : (Jvm.Cond.instanceMethod ({ cls := "EventCircuit", name := "set", desc := "(II)I" } : Jvm.MethodName)) ∈ lw_all := lw_g (lw_at lw_m0 100 rfl) rfl
theorem q123 : (Jvm.Cond.selects "EventCircuit" ({ cls := "EventCircuit", name := "set", desc := "(II)I" } : Jvm.MethodName) ({ cls := "EventCircuit", name := "set", desc := "(II)I" } : Jvm.MethodName)) ∈ lw_all := lw_g (lw_at lw_m0 101 rfl) rfl
theorem q124 : (Jvm.Cond.code ({ cls := "EventCircuit", name := "set", desc := "(II)I" } : Jvm.MethodName) prog_1_method_10_code (3 : Nat) (Option.some Jvm.ClassFile.FieldType.int)) ∈ lw_all := lw_g (lw_at lw_m0 102 rfl) rfl
theorem q125 : (Jvm.Cond.methodLink "EventCircuit" (68 : Nat) ({ cls := "EventCircuit", name := "change", desc := "(II)I" } : Jvm.MethodName)) ∈ lw_all := lw_g (lw_at lw_m0 103 rfl) rfl
theorem q126 : (Jvm.Cond.privateMethod ({ cls := "EventCircuit", name := "change", desc := "(II)I" } : Jvm.MethodName)) ∈ lw_tbl := lw_at lw_m0 104 rfl
theorem q127 : (Jvm.Cond.instanceMethod ({ cls := "EventCircuit", name := "change", desc := "(II)I" } : Jvm.MethodName)) ∈ lw_all := lw_g (lw_at lw_m0 105 rfl) rfl
theorem q128 : (Jvm.Cond.code ({ cls := "EventCircuit", name := "change", desc := "(II)I" } : Jvm.MethodName) prog_1_method_19_code (5 : Nat) (Option.some Jvm.ClassFile.FieldType.int)) ∈ lw_all := lw_g (lw_at lw_m0 106 rfl) rfl
theorem q129 : (Jvm.Cond.methodLink "EventCircuit" (78 : Nat) ({ cls := "EventCircuit", name := "sample", desc := "(I)V" } : Jvm.MethodName)) ∈ lw_all := lw_g (lw_at lw_m0 107 rfl) rfl
theorem q130 : (Jvm.Cond.privateMethod ({ cls := "EventCircuit", name := "sample", desc := "(I)V" } : Jvm.MethodName)) ∈ lw_tbl := lw_at lw_m0 108 rfl
theorem q131 : (Jvm.Cond.instanceMethod ({ cls := "EventCircuit", name := "sample", desc := "(I)V" } : Jvm.MethodName)) ∈ lw_all := lw_g (lw_at lw_m0 109 rfl) rfl
theorem q132 : (Jvm.Cond.code ({ cls := "EventCircuit", name := "sample", desc := "(I)V" } : Jvm.MethodName) prog_1_method_20_code (4 : Nat) (Option.none : Option Jvm.ClassFile.FieldType)) ∈ lw_all := lw_g (lw_at lw_m0 110 rfl) rfl
theorem q134 : (Jvm.Cond.instanceMethod ({ cls := "EventCircuit", name := "pulse", desc := "(III)I" } : Jvm.MethodName)) ∈ lw_all := lw_g (lw_at lw_m0 112 rfl) rfl
theorem q135 : (Jvm.Cond.selects "EventCircuit" ({ cls := "EventCircuit", name := "pulse", desc := "(III)I" } : Jvm.MethodName) ({ cls := "EventCircuit", name := "pulse", desc := "(III)I" } : Jvm.MethodName)) ∈ lw_all := lw_g (lw_at lw_m0 113 rfl) rfl
theorem q136 : (Jvm.Cond.code ({ cls := "EventCircuit", name := "pulse", desc := "(III)I" } : Jvm.MethodName) prog_1_method_11_code (8 : Nat) (Option.some Jvm.ClassFile.FieldType.int)) ∈ lw_all := lw_g (lw_at lw_m0 114 rfl) rfl
theorem q137 : (Jvm.Cond.methodLink "EventCircuit" (72 : Nat) ({ cls := "EventCircuit", name := "registersChanged", desc := "()I" } : Jvm.MethodName)) ∈ lw_all := lw_g (lw_at lw_m0 115 rfl) rfl
theorem q138 : (Jvm.Cond.privateMethod ({ cls := "EventCircuit", name := "registersChanged", desc := "()I" } : Jvm.MethodName)) ∈ lw_tbl := lw_at lw_m0 116 rfl
theorem q139 : (Jvm.Cond.instanceMethod ({ cls := "EventCircuit", name := "registersChanged", desc := "()I" } : Jvm.MethodName)) ∈ lw_all := lw_g (lw_at lw_m0 117 rfl) rfl
theorem q140 : (Jvm.Cond.code ({ cls := "EventCircuit", name := "registersChanged", desc := "()I" } : Jvm.MethodName) prog_1_method_12_code (3 : Nat) (Option.some Jvm.ClassFile.FieldType.int)) ∈ lw_all := lw_g (lw_at lw_m0 118 rfl) rfl
theorem q142 : (Jvm.Cond.instanceMethod ({ cls := "EventCircuit", name := "value", desc := "(I)I" } : Jvm.MethodName)) ∈ lw_all := lw_g (lw_at lw_m0 120 rfl) rfl
theorem q143 : (Jvm.Cond.selects "EventCircuit" ({ cls := "EventCircuit", name := "value", desc := "(I)I" } : Jvm.MethodName) ({ cls := "EventCircuit", name := "value", desc := "(I)I" } : Jvm.MethodName)) ∈ lw_all := lw_g (lw_at lw_m0 121 rfl) rfl
theorem q144 : (Jvm.Cond.code ({ cls := "EventCircuit", name := "value", desc := "(I)I" } : Jvm.MethodName) prog_1_method_13_code (2 : Nat) (Option.some Jvm.ClassFile.FieldType.int)) ∈ lw_all := lw_g (lw_at lw_m0 122 rfl) rfl
theorem q146 : (Jvm.Cond.instanceMethod ({ cls := "EventCircuit", name := "kind", desc := "(I)I" } : Jvm.MethodName)) ∈ lw_all := lw_g (lw_at lw_m0 124 rfl) rfl
theorem q147 : (Jvm.Cond.selects "EventCircuit" ({ cls := "EventCircuit", name := "kind", desc := "(I)I" } : Jvm.MethodName) ({ cls := "EventCircuit", name := "kind", desc := "(I)I" } : Jvm.MethodName)) ∈ lw_all := lw_g (lw_at lw_m0 125 rfl) rfl
theorem q148 : (Jvm.Cond.code ({ cls := "EventCircuit", name := "kind", desc := "(I)I" } : Jvm.MethodName) prog_1_method_14_code (2 : Nat) (Option.some Jvm.ClassFile.FieldType.int)) ∈ lw_all := lw_g (lw_at lw_m0 126 rfl) rfl
theorem q150 : (Jvm.Cond.instanceMethod ({ cls := "EventCircuit", name := "hanging", desc := "(I)I" } : Jvm.MethodName)) ∈ lw_all := lw_g (lw_at lw_m0 128 rfl) rfl
theorem q151 : (Jvm.Cond.selects "EventCircuit" ({ cls := "EventCircuit", name := "hanging", desc := "(I)I" } : Jvm.MethodName) ({ cls := "EventCircuit", name := "hanging", desc := "(I)I" } : Jvm.MethodName)) ∈ lw_all := lw_g (lw_at lw_m0 129 rfl) rfl
theorem q152 : (Jvm.Cond.code ({ cls := "EventCircuit", name := "hanging", desc := "(I)I" } : Jvm.MethodName) prog_1_method_15_code (2 : Nat) (Option.some Jvm.ClassFile.FieldType.int)) ∈ lw_all := lw_g (lw_at lw_m0 130 rfl) rfl
theorem q154 : (Jvm.Cond.instanceMethod ({ cls := "EventCircuit", name := "depth", desc := "()I" } : Jvm.MethodName)) ∈ lw_all := lw_g (lw_at lw_m0 132 rfl) rfl
theorem q155 : (Jvm.Cond.selects "EventCircuit" ({ cls := "EventCircuit", name := "depth", desc := "()I" } : Jvm.MethodName) ({ cls := "EventCircuit", name := "depth", desc := "()I" } : Jvm.MethodName)) ∈ lw_all := lw_g (lw_at lw_m0 133 rfl) rfl
theorem q156 : (Jvm.Cond.code ({ cls := "EventCircuit", name := "depth", desc := "()I" } : Jvm.MethodName) prog_1_method_16_code (3 : Nat) (Option.some Jvm.ClassFile.FieldType.int)) ∈ lw_all := lw_g (lw_at lw_m0 134 rfl) rfl
theorem in_X0 : ∀ w ∈ wsX00, w ∈ lw_all := lw_in wsX00 [44, 46, 48, 50, 52, 54, 56, 58, 60, 62, 64] (by decide +kernel) (by decide +kernel)
def RX1 : String := "EventCircuitModel"
def TX1 : u_T := fun k => match k with
  | 0 => ("EventCircuitModel", "kinds", "[I", false)
  | 1 => ("EventCircuitModel", "op", "[I", false)
  | 2 => ("EventCircuitModel", "a", "[I", false)
  | 3 => ("EventCircuitModel", "b", "[I", false)
  | 4 => ("EventCircuitModel", "clock", "[I", false)
  | 5 => ("EventCircuitModel", "values", "[I", false)
  | 6 => ("EventCircuitModel", "before", "[I", false)
  | _ => ("EventCircuitModel", "on", "[I", false)
def tyX1 : Nat → FieldType := fun k => match k with
  | 0 => .array .int
  | 1 => .array .int
  | 2 => .array .int
  | 3 => .array .int
  | 4 => .array .int
  | 5 => .array .int
  | 6 => .array .int
  | _ => .array .int
abbrev wsX10 : List Cond := u_ws RX1 TX1 8
theorem nmX1 : ∀ a, a < 8 → ∀ b, b < 8 → a ≠ b → (TX1 a).2.1 ≠ (TX1 b).2.1 := by decide +kernel
theorem tyX1_ok : ∀ k, k < 8 → parseFieldDescriptor (TX1 k).2.2.1 = some (tyX1 k) := by decide +kernel
abbrev cX1_init : ByteArray := prog_3_method_1_code
def yX1_init : MethodName := ⟨RX1, "<init>", "()V"⟩
abbrev cX1_wire : ByteArray := prog_3_method_9_code
def yX1_wire : MethodName := ⟨RX1, "wire", "(IIII)I"⟩
abbrev cX1_isSignal : ByteArray := prog_3_method_2_code
def yX1_isSignal : MethodName := ⟨RX1, "isSignal", "(I)Z"⟩
abbrev cX1_isClock : ByteArray := prog_3_method_3_code
def yX1_isClock : MethodName := ⟨RX1, "isClock", "(I)Z"⟩
abbrev cX1_give : ByteArray := prog_3_method_8_code
def yX1_give : MethodName := ⟨RX1, "give", "(IIIII)V"⟩
abbrev cX1_hasCircle : ByteArray := prog_3_method_7_code
def yX1_hasCircle : MethodName := ⟨RX1, "hasCircle", "()Z"⟩
abbrev cX1_findHanging : ByteArray := prog_3_method_6_code
def yX1_findHanging : MethodName := ⟨RX1, "findHanging", "()V"⟩
abbrev cX1_settle : ByteArray := prog_3_method_5_code
def yX1_settle : MethodName := ⟨RX1, "settle", "()V"⟩
abbrev cX1_formula : ByteArray := prog_3_method_4_code
def yX1_formula : MethodName := ⟨RX1, "formula", "(I)I"⟩
abbrev cX1_register : ByteArray := prog_3_method_10_code
def yX1_register : MethodName := ⟨RX1, "register", "(IIII)I"⟩
abbrev cX1_free : ByteArray := prog_3_method_11_code
def yX1_free : MethodName := ⟨RX1, "free", "(I)I"⟩
abbrev cX1_set : ByteArray := prog_3_method_14_code
def yX1_set : MethodName := ⟨RX1, "set", "(II)I"⟩
abbrev cX1_status : ByteArray := prog_3_method_13_code
def yX1_status : MethodName := ⟨RX1, "status", "(II)I"⟩
abbrev cX1_change : ByteArray := prog_3_method_12_code
def yX1_change : MethodName := ⟨RX1, "change", "(II)I"⟩
abbrev cX1_pulse : ByteArray := prog_3_method_15_code
def yX1_pulse : MethodName := ⟨RX1, "pulse", "(III)I"⟩
abbrev cX1_value : ByteArray := prog_3_method_16_code
def yX1_value : MethodName := ⟨RX1, "value", "(I)I"⟩
abbrev cX1_kind : ByteArray := prog_3_method_17_code
def yX1_kind : MethodName := ⟨RX1, "kind", "(I)I"⟩
abbrev cX1_hanging : ByteArray := prog_3_method_18_code
def yX1_hanging : MethodName := ⟨RX1, "hanging", "(I)I"⟩
abbrev cX1_depth : ByteArray := prog_3_method_19_code
def yX1_depth : MethodName := ⟨RX1, "depth", "()I"⟩
theorem q24 : (Jvm.Cond.initialized "EventCircuitModel") ∈ lw_all := lw_g (lw_at lw_m0 2 rfl) rfl
theorem q158 : (Jvm.Cond.instantiable "EventCircuitModel" (8 : Nat)) ∈ lw_all := lw_g (lw_at lw_m0 136 rfl) rfl
theorem q160 : (Jvm.Cond.instanceMethod ({ cls := "EventCircuitModel", name := "<init>", desc := "()V" } : Jvm.MethodName)) ∈ lw_all := lw_g (lw_at lw_m0 138 rfl) rfl
theorem q161 : (Jvm.Cond.code ({ cls := "EventCircuitModel", name := "<init>", desc := "()V" } : Jvm.MethodName) prog_3_method_1_code (1 : Nat) (Option.none : Option Jvm.ClassFile.FieldType)) ∈ lw_all := lw_g (lw_at lw_m0 139 rfl) rfl
theorem q162 : (Jvm.Cond.methodLink "EventCircuitModel" (1 : Nat) ({ cls := "java/lang/Object", name := "<init>", desc := "()V" } : Jvm.MethodName)) ∈ lw_all := lw_g (lw_at lw_m0 140 rfl) rfl
theorem q163 : (Jvm.Cond.fieldLink "EventCircuitModel" (7 : Nat) "EventCircuitModel" "kinds" "[I") ∈ lw_all := lw_g (lw_at lw_m0 141 rfl) rfl
theorem q164 : (Jvm.Cond.fieldLink "EventCircuitModel" (13 : Nat) "EventCircuitModel" "op" "[I") ∈ lw_all := lw_g (lw_at lw_m0 142 rfl) rfl
theorem q165 : (Jvm.Cond.fieldLink "EventCircuitModel" (16 : Nat) "EventCircuitModel" "a" "[I") ∈ lw_all := lw_g (lw_at lw_m0 143 rfl) rfl
theorem q166 : (Jvm.Cond.fieldLink "EventCircuitModel" (19 : Nat) "EventCircuitModel" "b" "[I") ∈ lw_all := lw_g (lw_at lw_m0 144 rfl) rfl
theorem q167 : (Jvm.Cond.fieldLink "EventCircuitModel" (22 : Nat) "EventCircuitModel" "clock" "[I") ∈ lw_all := lw_g (lw_at lw_m0 145 rfl) rfl
theorem q168 : (Jvm.Cond.fieldLink "EventCircuitModel" (25 : Nat) "EventCircuitModel" "values" "[I") ∈ lw_all := lw_g (lw_at lw_m0 146 rfl) rfl
theorem q169 : (Jvm.Cond.fieldLink "EventCircuitModel" (28 : Nat) "EventCircuitModel" "before" "[I") ∈ lw_all := lw_g (lw_at lw_m0 147 rfl) rfl
theorem q170 : (Jvm.Cond.fieldLink "EventCircuitModel" (31 : Nat) "EventCircuitModel" "on" "[I") ∈ lw_all := lw_g (lw_at lw_m0 148 rfl) rfl
theorem q171 : (Jvm.Cond.lays "EventCircuitModel" "EventCircuitModel" "kinds" "[I") ∈ lw_all := lw_g (lw_at lw_m0 149 rfl) rfl
theorem q172 : (Jvm.Cond.soleField "EventCircuitModel" "kinds") ∈ lw_all := lw_g (lw_at lw_m0 150 rfl) rfl
theorem q173 : (Jvm.Cond.lays "EventCircuitModel" "EventCircuitModel" "op" "[I") ∈ lw_all := lw_g (lw_at lw_m0 151 rfl) rfl
theorem q174 : (Jvm.Cond.soleField "EventCircuitModel" "op") ∈ lw_all := lw_g (lw_at lw_m0 152 rfl) rfl
theorem q175 : (Jvm.Cond.lays "EventCircuitModel" "EventCircuitModel" "a" "[I") ∈ lw_all := lw_g (lw_at lw_m0 153 rfl) rfl
theorem q176 : (Jvm.Cond.soleField "EventCircuitModel" "a") ∈ lw_all := lw_g (lw_at lw_m0 154 rfl) rfl
theorem q177 : (Jvm.Cond.lays "EventCircuitModel" "EventCircuitModel" "b" "[I") ∈ lw_all := lw_g (lw_at lw_m0 155 rfl) rfl
theorem q178 : (Jvm.Cond.soleField "EventCircuitModel" "b") ∈ lw_all := lw_g (lw_at lw_m0 156 rfl) rfl
theorem q179 : (Jvm.Cond.lays "EventCircuitModel" "EventCircuitModel" "clock" "[I") ∈ lw_all := lw_g (lw_at lw_m0 157 rfl) rfl
theorem q180 : (Jvm.Cond.soleField "EventCircuitModel" "clock") ∈ lw_all := lw_g (lw_at lw_m0 158 rfl) rfl
theorem q181 : (Jvm.Cond.lays "EventCircuitModel" "EventCircuitModel" "values" "[I") ∈ lw_all := lw_g (lw_at lw_m0 159 rfl) rfl
theorem q182 : (Jvm.Cond.soleField "EventCircuitModel" "values") ∈ lw_all := lw_g (lw_at lw_m0 160 rfl) rfl
theorem q183 : (Jvm.Cond.lays "EventCircuitModel" "EventCircuitModel" "before" "[I") ∈ lw_all := lw_g (lw_at lw_m0 161 rfl) rfl
theorem q184 : (Jvm.Cond.soleField "EventCircuitModel" "before") ∈ lw_all := lw_g (lw_at lw_m0 162 rfl) rfl
theorem q185 : (Jvm.Cond.lays "EventCircuitModel" "EventCircuitModel" "on" "[I") ∈ lw_all := lw_g (lw_at lw_m0 163 rfl) rfl
theorem q186 : (Jvm.Cond.soleField "EventCircuitModel" "on") ∈ lw_all := lw_g (lw_at lw_m0 164 rfl) rfl
theorem q187 : (Jvm.Cond.superclass "EventCircuitModel" "java/lang/Object") ∈ lw_all := lw_g (lw_at lw_m0 165 rfl) rfl
theorem q189 : (Jvm.Cond.instanceMethod ({ cls := "EventCircuitModel", name := "wire", desc := "(IIII)I" } : Jvm.MethodName)) ∈ lw_all := lw_g (lw_at lw_m0 167 rfl) rfl
theorem q190 : (Jvm.Cond.selects "EventCircuitModel" ({ cls := "EventCircuitModel", name := "wire", desc := "(IIII)I" } : Jvm.MethodName) ({ cls := "EventCircuitModel", name := "wire", desc := "(IIII)I" } : Jvm.MethodName)) ∈ lw_all := lw_g (lw_at lw_m0 168 rfl) rfl
theorem q191 : (Jvm.Cond.code ({ cls := "EventCircuitModel", name := "wire", desc := "(IIII)I" } : Jvm.MethodName) prog_3_method_9_code (9 : Nat) (Option.some Jvm.ClassFile.FieldType.int)) ∈ lw_all := lw_g (lw_at lw_m0 169 rfl) rfl
theorem q192 : (Jvm.Cond.methodLink "EventCircuitModel" (41 : Nat) ({ cls := "EventCircuitModel", name := "isSignal", desc := "(I)Z" } : Jvm.MethodName)) ∈ lw_all := lw_g (lw_at lw_m0 170 rfl) rfl
theorem q193 : (Jvm.Cond.privateMethod ({ cls := "EventCircuitModel", name := "isSignal", desc := "(I)Z" } : Jvm.MethodName)) ∈ lw_tbl := lw_at lw_m0 171 rfl
theorem q194 : (Jvm.Cond.instanceMethod ({ cls := "EventCircuitModel", name := "isSignal", desc := "(I)Z" } : Jvm.MethodName)) ∈ lw_all := lw_g (lw_at lw_m0 172 rfl) rfl
theorem q195 : (Jvm.Cond.code ({ cls := "EventCircuitModel", name := "isSignal", desc := "(I)Z" } : Jvm.MethodName) prog_3_method_2_code (2 : Nat) (Option.some Jvm.ClassFile.FieldType.boolean)) ∈ lw_all := lw_g (lw_at lw_m0 173 rfl) rfl
theorem q196 : (Jvm.Cond.methodLink "EventCircuitModel" (45 : Nat) ({ cls := "EventCircuitModel", name := "isClock", desc := "(I)Z" } : Jvm.MethodName)) ∈ lw_all := lw_g (lw_at lw_m0 174 rfl) rfl
theorem q197 : (Jvm.Cond.privateMethod ({ cls := "EventCircuitModel", name := "isClock", desc := "(I)Z" } : Jvm.MethodName)) ∈ lw_tbl := lw_at lw_m0 175 rfl
theorem q198 : (Jvm.Cond.instanceMethod ({ cls := "EventCircuitModel", name := "isClock", desc := "(I)Z" } : Jvm.MethodName)) ∈ lw_all := lw_g (lw_at lw_m0 176 rfl) rfl
theorem q199 : (Jvm.Cond.code ({ cls := "EventCircuitModel", name := "isClock", desc := "(I)Z" } : Jvm.MethodName) prog_3_method_3_code (3 : Nat) (Option.some Jvm.ClassFile.FieldType.boolean)) ∈ lw_all := lw_g (lw_at lw_m0 177 rfl) rfl
theorem q200 : (Jvm.Cond.methodLink "EventCircuitModel" (48 : Nat) ({ cls := "EventCircuitModel", name := "give", desc := "(IIIII)V" } : Jvm.MethodName)) ∈ lw_all := lw_g (lw_at lw_m0 178 rfl) rfl
theorem q201 : (Jvm.Cond.privateMethod ({ cls := "EventCircuitModel", name := "give", desc := "(IIIII)V" } : Jvm.MethodName)) ∈ lw_tbl := lw_at lw_m0 179 rfl
theorem q202 : (Jvm.Cond.instanceMethod ({ cls := "EventCircuitModel", name := "give", desc := "(IIIII)V" } : Jvm.MethodName)) ∈ lw_all := lw_g (lw_at lw_m0 180 rfl) rfl
theorem q203 : (Jvm.Cond.code ({ cls := "EventCircuitModel", name := "give", desc := "(IIIII)V" } : Jvm.MethodName) prog_3_method_8_code (6 : Nat) (Option.none : Option Jvm.ClassFile.FieldType)) ∈ lw_all := lw_g (lw_at lw_m0 181 rfl) rfl
theorem q204 : (Jvm.Cond.methodLink "EventCircuitModel" (52 : Nat) ({ cls := "EventCircuitModel", name := "hasCircle", desc := "()Z" } : Jvm.MethodName)) ∈ lw_all := lw_g (lw_at lw_m0 182 rfl) rfl
theorem q205 : (Jvm.Cond.privateMethod ({ cls := "EventCircuitModel", name := "hasCircle", desc := "()Z" } : Jvm.MethodName)) ∈ lw_tbl := lw_at lw_m0 183 rfl
theorem q206 : (Jvm.Cond.instanceMethod ({ cls := "EventCircuitModel", name := "hasCircle", desc := "()Z" } : Jvm.MethodName)) ∈ lw_all := lw_g (lw_at lw_m0 184 rfl) rfl
theorem q207 : (Jvm.Cond.code ({ cls := "EventCircuitModel", name := "hasCircle", desc := "()Z" } : Jvm.MethodName) prog_3_method_7_code (2 : Nat) (Option.some Jvm.ClassFile.FieldType.boolean)) ∈ lw_all := lw_g (lw_at lw_m0 185 rfl) rfl
theorem q208 : (Jvm.Cond.methodLink "EventCircuitModel" (38 : Nat) ({ cls := "EventCircuitModel", name := "findHanging", desc := "()V" } : Jvm.MethodName)) ∈ lw_all := lw_g (lw_at lw_m0 186 rfl) rfl
theorem q209 : (Jvm.Cond.privateMethod ({ cls := "EventCircuitModel", name := "findHanging", desc := "()V" } : Jvm.MethodName)) ∈ lw_tbl := lw_at lw_m0 187 rfl
theorem q210 : (Jvm.Cond.instanceMethod ({ cls := "EventCircuitModel", name := "findHanging", desc := "()V" } : Jvm.MethodName)) ∈ lw_all := lw_g (lw_at lw_m0 188 rfl) rfl
theorem q211 : (Jvm.Cond.code ({ cls := "EventCircuitModel", name := "findHanging", desc := "()V" } : Jvm.MethodName) prog_3_method_6_code (4 : Nat) (Option.none : Option Jvm.ClassFile.FieldType)) ∈ lw_all := lw_g (lw_at lw_m0 189 rfl) rfl
theorem q212 : (Jvm.Cond.methodLink "EventCircuitModel" (56 : Nat) ({ cls := "EventCircuitModel", name := "settle", desc := "()V" } : Jvm.MethodName)) ∈ lw_all := lw_g (lw_at lw_m0 190 rfl) rfl
theorem q213 : (Jvm.Cond.privateMethod ({ cls := "EventCircuitModel", name := "settle", desc := "()V" } : Jvm.MethodName)) ∈ lw_tbl := lw_at lw_m0 191 rfl
theorem q214 : (Jvm.Cond.instanceMethod ({ cls := "EventCircuitModel", name := "settle", desc := "()V" } : Jvm.MethodName)) ∈ lw_all := lw_g (lw_at lw_m0 192 rfl) rfl
theorem q215 : (Jvm.Cond.code ({ cls := "EventCircuitModel", name := "settle", desc := "()V" } : Jvm.MethodName) prog_3_method_5_code (3 : Nat) (Option.none : Option Jvm.ClassFile.FieldType)) ∈ lw_all := lw_g (lw_at lw_m0 193 rfl) rfl
theorem q216 : (Jvm.Cond.methodLink "EventCircuitModel" (34 : Nat) ({ cls := "EventCircuitModel", name := "formula", desc := "(I)I" } : Jvm.MethodName)) ∈ lw_all := lw_g (lw_at lw_m0 194 rfl) rfl
theorem q217 : (Jvm.Cond.privateMethod ({ cls := "EventCircuitModel", name := "formula", desc := "(I)I" } : Jvm.MethodName)) ∈ lw_tbl := lw_at lw_m0 195 rfl
theorem q218 : (Jvm.Cond.instanceMethod ({ cls := "EventCircuitModel", name := "formula", desc := "(I)I" } : Jvm.MethodName)) ∈ lw_all := lw_g (lw_at lw_m0 196 rfl) rfl
theorem q219 : (Jvm.Cond.code ({ cls := "EventCircuitModel", name := "formula", desc := "(I)I" } : Jvm.MethodName) prog_3_method_4_code (4 : Nat) (Option.some Jvm.ClassFile.FieldType.int)) ∈ lw_all := lw_g (lw_at lw_m0 197 rfl) rfl
theorem q221 : (Jvm.Cond.instanceMethod ({ cls := "EventCircuitModel", name := "register", desc := "(IIII)I" } : Jvm.MethodName)) ∈ lw_all := lw_g (lw_at lw_m0 199 rfl) rfl
theorem q222 : (Jvm.Cond.selects "EventCircuitModel" ({ cls := "EventCircuitModel", name := "register", desc := "(IIII)I" } : Jvm.MethodName) ({ cls := "EventCircuitModel", name := "register", desc := "(IIII)I" } : Jvm.MethodName)) ∈ lw_all := lw_g (lw_at lw_m0 200 rfl) rfl
theorem q223 : (Jvm.Cond.code ({ cls := "EventCircuitModel", name := "register", desc := "(IIII)I" } : Jvm.MethodName) prog_3_method_10_code (6 : Nat) (Option.some Jvm.ClassFile.FieldType.int)) ∈ lw_all := lw_g (lw_at lw_m0 201 rfl) rfl
theorem q225 : (Jvm.Cond.instanceMethod ({ cls := "EventCircuitModel", name := "free", desc := "(I)I" } : Jvm.MethodName)) ∈ lw_all := lw_g (lw_at lw_m0 203 rfl) rfl
theorem q226 : (Jvm.Cond.selects "EventCircuitModel" ({ cls := "EventCircuitModel", name := "free", desc := "(I)I" } : Jvm.MethodName) ({ cls := "EventCircuitModel", name := "free", desc := "(I)I" } : Jvm.MethodName)) ∈ lw_all := lw_g (lw_at lw_m0 204 rfl) rfl
theorem q227 : (Jvm.Cond.code ({ cls := "EventCircuitModel", name := "free", desc := "(I)I" } : Jvm.MethodName) prog_3_method_11_code (2 : Nat) (Option.some Jvm.ClassFile.FieldType.int)) ∈ lw_all := lw_g (lw_at lw_m0 205 rfl) rfl
theorem q229 : (Jvm.Cond.instanceMethod ({ cls := "EventCircuitModel", name := "set", desc := "(II)I" } : Jvm.MethodName)) ∈ lw_all := lw_g (lw_at lw_m0 207 rfl) rfl
theorem q230 : (Jvm.Cond.selects "EventCircuitModel" ({ cls := "EventCircuitModel", name := "set", desc := "(II)I" } : Jvm.MethodName) ({ cls := "EventCircuitModel", name := "set", desc := "(II)I" } : Jvm.MethodName)) ∈ lw_all := lw_g (lw_at lw_m0 208 rfl) rfl
theorem q231 : (Jvm.Cond.code ({ cls := "EventCircuitModel", name := "set", desc := "(II)I" } : Jvm.MethodName) prog_3_method_14_code (6 : Nat) (Option.some Jvm.ClassFile.FieldType.int)) ∈ lw_all := lw_g (lw_at lw_m0 209 rfl) rfl
theorem q232 : (Jvm.Cond.methodLink "EventCircuitModel" (59 : Nat) ({ cls := "EventCircuitModel", name := "status", desc := "(II)I" } : Jvm.MethodName)) ∈ lw_all := lw_g (lw_at lw_m0 210 rfl) rfl
theorem q233 : (Jvm.Cond.privateMethod ({ cls := "EventCircuitModel", name := "status", desc := "(II)I" } : Jvm.MethodName)) ∈ lw_tbl := lw_at lw_m0 211 rfl
theorem q234 : (Jvm.Cond.instanceMethod ({ cls := "EventCircuitModel", name := "status", desc := "(II)I" } : Jvm.MethodName)) ∈ lw_all := lw_g (lw_at lw_m0 212 rfl) rfl
theorem q235 : (Jvm.Cond.code ({ cls := "EventCircuitModel", name := "status", desc := "(II)I" } : Jvm.MethodName) prog_3_method_13_code (3 : Nat) (Option.some Jvm.ClassFile.FieldType.int)) ∈ lw_all := lw_g (lw_at lw_m0 213 rfl) rfl
theorem q236 : (Jvm.Cond.methodLink "EventCircuitModel" (63 : Nat) ({ cls := "EventCircuitModel", name := "change", desc := "(II)I" } : Jvm.MethodName)) ∈ lw_all := lw_g (lw_at lw_m0 214 rfl) rfl
theorem q237 : (Jvm.Cond.privateMethod ({ cls := "EventCircuitModel", name := "change", desc := "(II)I" } : Jvm.MethodName)) ∈ lw_tbl := lw_at lw_m0 215 rfl
theorem q238 : (Jvm.Cond.instanceMethod ({ cls := "EventCircuitModel", name := "change", desc := "(II)I" } : Jvm.MethodName)) ∈ lw_all := lw_g (lw_at lw_m0 216 rfl) rfl
theorem q239 : (Jvm.Cond.code ({ cls := "EventCircuitModel", name := "change", desc := "(II)I" } : Jvm.MethodName) prog_3_method_12_code (6 : Nat) (Option.some Jvm.ClassFile.FieldType.int)) ∈ lw_all := lw_g (lw_at lw_m0 217 rfl) rfl
theorem q241 : (Jvm.Cond.instanceMethod ({ cls := "EventCircuitModel", name := "pulse", desc := "(III)I" } : Jvm.MethodName)) ∈ lw_all := lw_g (lw_at lw_m0 219 rfl) rfl
theorem q242 : (Jvm.Cond.selects "EventCircuitModel" ({ cls := "EventCircuitModel", name := "pulse", desc := "(III)I" } : Jvm.MethodName) ({ cls := "EventCircuitModel", name := "pulse", desc := "(III)I" } : Jvm.MethodName)) ∈ lw_all := lw_g (lw_at lw_m0 220 rfl) rfl
theorem q243 : (Jvm.Cond.code ({ cls := "EventCircuitModel", name := "pulse", desc := "(III)I" } : Jvm.MethodName) prog_3_method_15_code (9 : Nat) (Option.some Jvm.ClassFile.FieldType.int)) ∈ lw_all := lw_g (lw_at lw_m0 221 rfl) rfl
theorem q245 : (Jvm.Cond.instanceMethod ({ cls := "EventCircuitModel", name := "value", desc := "(I)I" } : Jvm.MethodName)) ∈ lw_all := lw_g (lw_at lw_m0 223 rfl) rfl
theorem q246 : (Jvm.Cond.selects "EventCircuitModel" ({ cls := "EventCircuitModel", name := "value", desc := "(I)I" } : Jvm.MethodName) ({ cls := "EventCircuitModel", name := "value", desc := "(I)I" } : Jvm.MethodName)) ∈ lw_all := lw_g (lw_at lw_m0 224 rfl) rfl
theorem q247 : (Jvm.Cond.code ({ cls := "EventCircuitModel", name := "value", desc := "(I)I" } : Jvm.MethodName) prog_3_method_16_code (2 : Nat) (Option.some Jvm.ClassFile.FieldType.int)) ∈ lw_all := lw_g (lw_at lw_m0 225 rfl) rfl
theorem q249 : (Jvm.Cond.instanceMethod ({ cls := "EventCircuitModel", name := "kind", desc := "(I)I" } : Jvm.MethodName)) ∈ lw_all := lw_g (lw_at lw_m0 227 rfl) rfl
theorem q250 : (Jvm.Cond.selects "EventCircuitModel" ({ cls := "EventCircuitModel", name := "kind", desc := "(I)I" } : Jvm.MethodName) ({ cls := "EventCircuitModel", name := "kind", desc := "(I)I" } : Jvm.MethodName)) ∈ lw_all := lw_g (lw_at lw_m0 228 rfl) rfl
theorem q251 : (Jvm.Cond.code ({ cls := "EventCircuitModel", name := "kind", desc := "(I)I" } : Jvm.MethodName) prog_3_method_17_code (2 : Nat) (Option.some Jvm.ClassFile.FieldType.int)) ∈ lw_all := lw_g (lw_at lw_m0 229 rfl) rfl
theorem q253 : (Jvm.Cond.instanceMethod ({ cls := "EventCircuitModel", name := "hanging", desc := "(I)I" } : Jvm.MethodName)) ∈ lw_all := lw_g (lw_at lw_m0 231 rfl) rfl
theorem q254 : (Jvm.Cond.selects "EventCircuitModel" ({ cls := "EventCircuitModel", name := "hanging", desc := "(I)I" } : Jvm.MethodName) ({ cls := "EventCircuitModel", name := "hanging", desc := "(I)I" } : Jvm.MethodName)) ∈ lw_all := lw_g (lw_at lw_m0 232 rfl) rfl
theorem q255 : (Jvm.Cond.code ({ cls := "EventCircuitModel", name := "hanging", desc := "(I)I" } : Jvm.MethodName) prog_3_method_18_code (4 : Nat) (Option.some Jvm.ClassFile.FieldType.int)) ∈ lw_all := lw_g (lw_at lw_m0 233 rfl) rfl
theorem q257 : (Jvm.Cond.instanceMethod ({ cls := "EventCircuitModel", name := "depth", desc := "()I" } : Jvm.MethodName)) ∈ lw_all := lw_g (lw_at lw_m0 235 rfl) rfl
theorem q258 : (Jvm.Cond.selects "EventCircuitModel" ({ cls := "EventCircuitModel", name := "depth", desc := "()I" } : Jvm.MethodName) ({ cls := "EventCircuitModel", name := "depth", desc := "()I" } : Jvm.MethodName)) ∈ lw_all := lw_g (lw_at lw_m0 236 rfl) rfl
theorem q259 : (Jvm.Cond.code ({ cls := "EventCircuitModel", name := "depth", desc := "()I" } : Jvm.MethodName) prog_3_method_19_code (5 : Nat) (Option.some Jvm.ClassFile.FieldType.int)) ∈ lw_all := lw_g (lw_at lw_m0 237 rfl) rfl
theorem in_X1 : ∀ w ∈ wsX10, w ∈ lw_all := lw_in wsX10 [171, 173, 175, 177, 179, 181, 183, 185] (by decide +kernel) (by decide +kernel)
theorem q22 : (Jvm.Cond.initialized "EventCircuitLaw") ∈ lw_all := lw_g (lw_at lw_m0 0 rfl) rfl
theorem q25 : (Jvm.Cond.classLink "EventCircuitLaw" (7 : Nat) "EventCircuit") ∈ lw_all := lw_g (lw_at lw_m0 3 rfl) rfl
theorem q27 : (Jvm.Cond.methodLink "EventCircuitLaw" (9 : Nat) ({ cls := "EventCircuit", name := "<init>", desc := "()V" } : Jvm.MethodName)) ∈ lw_all := lw_g (lw_at lw_m0 5 rfl) rfl
theorem q69 : (Jvm.Cond.methodLink "EventCircuitLaw" (13 : Nat) ({ cls := "EventCircuit", name := "wire", desc := "(IIII)I" } : Jvm.MethodName)) ∈ lw_all := lw_g (lw_at lw_m0 47 rfl) rfl
theorem q113 : (Jvm.Cond.methodLink "EventCircuitLaw" (18 : Nat) ({ cls := "EventCircuit", name := "register", desc := "(IIII)I" } : Jvm.MethodName)) ∈ lw_all := lw_g (lw_at lw_m0 91 rfl) rfl
theorem q117 : (Jvm.Cond.methodLink "EventCircuitLaw" (22 : Nat) ({ cls := "EventCircuit", name := "free", desc := "(I)I" } : Jvm.MethodName)) ∈ lw_all := lw_g (lw_at lw_m0 95 rfl) rfl
theorem q121 : (Jvm.Cond.methodLink "EventCircuitLaw" (27 : Nat) ({ cls := "EventCircuit", name := "set", desc := "(II)I" } : Jvm.MethodName)) ∈ lw_all := lw_g (lw_at lw_m0 99 rfl) rfl
theorem q133 : (Jvm.Cond.methodLink "EventCircuitLaw" (32 : Nat) ({ cls := "EventCircuit", name := "pulse", desc := "(III)I" } : Jvm.MethodName)) ∈ lw_all := lw_g (lw_at lw_m0 111 rfl) rfl
theorem q141 : (Jvm.Cond.methodLink "EventCircuitLaw" (37 : Nat) ({ cls := "EventCircuit", name := "value", desc := "(I)I" } : Jvm.MethodName)) ∈ lw_all := lw_g (lw_at lw_m0 119 rfl) rfl
theorem q145 : (Jvm.Cond.methodLink "EventCircuitLaw" (41 : Nat) ({ cls := "EventCircuit", name := "kind", desc := "(I)I" } : Jvm.MethodName)) ∈ lw_all := lw_g (lw_at lw_m0 123 rfl) rfl
theorem q149 : (Jvm.Cond.methodLink "EventCircuitLaw" (45 : Nat) ({ cls := "EventCircuit", name := "hanging", desc := "(I)I" } : Jvm.MethodName)) ∈ lw_all := lw_g (lw_at lw_m0 127 rfl) rfl
theorem q153 : (Jvm.Cond.methodLink "EventCircuitLaw" (49 : Nat) ({ cls := "EventCircuit", name := "depth", desc := "()I" } : Jvm.MethodName)) ∈ lw_all := lw_g (lw_at lw_m0 131 rfl) rfl
theorem q157 : (Jvm.Cond.classLink "EventCircuitLaw" (10 : Nat) "EventCircuitModel") ∈ lw_all := lw_g (lw_at lw_m0 135 rfl) rfl
theorem q159 : (Jvm.Cond.methodLink "EventCircuitLaw" (12 : Nat) ({ cls := "EventCircuitModel", name := "<init>", desc := "()V" } : Jvm.MethodName)) ∈ lw_all := lw_g (lw_at lw_m0 137 rfl) rfl
theorem q188 : (Jvm.Cond.methodLink "EventCircuitLaw" (17 : Nat) ({ cls := "EventCircuitModel", name := "wire", desc := "(IIII)I" } : Jvm.MethodName)) ∈ lw_all := lw_g (lw_at lw_m0 166 rfl) rfl
theorem q220 : (Jvm.Cond.methodLink "EventCircuitLaw" (21 : Nat) ({ cls := "EventCircuitModel", name := "register", desc := "(IIII)I" } : Jvm.MethodName)) ∈ lw_all := lw_g (lw_at lw_m0 198 rfl) rfl
theorem q224 : (Jvm.Cond.methodLink "EventCircuitLaw" (26 : Nat) ({ cls := "EventCircuitModel", name := "free", desc := "(I)I" } : Jvm.MethodName)) ∈ lw_all := lw_g (lw_at lw_m0 202 rfl) rfl
theorem q228 : (Jvm.Cond.methodLink "EventCircuitLaw" (31 : Nat) ({ cls := "EventCircuitModel", name := "set", desc := "(II)I" } : Jvm.MethodName)) ∈ lw_all := lw_g (lw_at lw_m0 206 rfl) rfl
theorem q240 : (Jvm.Cond.methodLink "EventCircuitLaw" (36 : Nat) ({ cls := "EventCircuitModel", name := "pulse", desc := "(III)I" } : Jvm.MethodName)) ∈ lw_all := lw_g (lw_at lw_m0 218 rfl) rfl
theorem q244 : (Jvm.Cond.methodLink "EventCircuitLaw" (40 : Nat) ({ cls := "EventCircuitModel", name := "value", desc := "(I)I" } : Jvm.MethodName)) ∈ lw_all := lw_g (lw_at lw_m0 222 rfl) rfl
theorem q248 : (Jvm.Cond.methodLink "EventCircuitLaw" (44 : Nat) ({ cls := "EventCircuitModel", name := "kind", desc := "(I)I" } : Jvm.MethodName)) ∈ lw_all := lw_g (lw_at lw_m0 226 rfl) rfl
theorem q252 : (Jvm.Cond.methodLink "EventCircuitLaw" (48 : Nat) ({ cls := "EventCircuitModel", name := "hanging", desc := "(I)I" } : Jvm.MethodName)) ∈ lw_all := lw_g (lw_at lw_m0 230 rfl) rfl
theorem q256 : (Jvm.Cond.methodLink "EventCircuitLaw" (53 : Nat) ({ cls := "EventCircuitModel", name := "depth", desc := "()I" } : Jvm.MethodName)) ∈ lw_all := lw_g (lw_at lw_m0 234 rfl) rfl
theorem q67 : (Jvm.Cond.arrayClass Jvm.ClassFile.FieldType.byte) ∈ lw_all := lw_g (lw_at lw_m0 45 rfl) rfl
theorem q68 : (Jvm.Cond.arrayClass Jvm.ClassFile.FieldType.int) ∈ lw_all := lw_g (lw_at lw_m0 46 rfl) rfl
abbrev cL_law : ByteArray := code
end
section
/-! decode rows -/
set_option maxRecDepth 100000
theorem dX0_init_0 : decode cX0_init 0 = .ok (.aload_n 0, 1) := by decide +kernel
theorem dX0_init_1 : decode cX0_init 1 = .ok (.invokespecial 1, 3) := by decide +kernel
theorem dX0_init_4 : decode cX0_init 4 = .ok (.aload_n 0, 1) := by decide +kernel
theorem dX0_init_5 : decode cX0_init 5 = .ok (.bipush 12, 2) := by decide +kernel
theorem dX0_init_7 : decode cX0_init 7 = .ok (.newarray .byte, 2) := by decide +kernel
theorem dX0_init_9 : decode cX0_init 9 = .ok (.putfield 7, 3) := by decide +kernel
theorem dX0_init_12 : decode cX0_init 12 = .ok (.aload_n 0, 1) := by decide +kernel
theorem dX0_init_13 : decode cX0_init 13 = .ok (.bipush 12, 2) := by decide +kernel
theorem dX0_init_15 : decode cX0_init 15 = .ok (.newarray .byte, 2) := by decide +kernel
theorem dX0_init_17 : decode cX0_init 17 = .ok (.putfield 13, 3) := by decide +kernel
theorem dX0_init_20 : decode cX0_init 20 = .ok (.aload_n 0, 1) := by decide +kernel
theorem dX0_init_21 : decode cX0_init 21 = .ok (.bipush 12, 2) := by decide +kernel
theorem dX0_init_23 : decode cX0_init 23 = .ok (.newarray .byte, 2) := by decide +kernel
theorem dX0_init_25 : decode cX0_init 25 = .ok (.putfield 16, 3) := by decide +kernel
theorem dX0_init_28 : decode cX0_init 28 = .ok (.aload_n 0, 1) := by decide +kernel
theorem dX0_init_29 : decode cX0_init 29 = .ok (.bipush 12, 2) := by decide +kernel
theorem dX0_init_31 : decode cX0_init 31 = .ok (.newarray .byte, 2) := by decide +kernel
theorem dX0_init_33 : decode cX0_init 33 = .ok (.putfield 19, 3) := by decide +kernel
theorem dX0_init_36 : decode cX0_init 36 = .ok (.aload_n 0, 1) := by decide +kernel
theorem dX0_init_37 : decode cX0_init 37 = .ok (.bipush 12, 2) := by decide +kernel
theorem dX0_init_39 : decode cX0_init 39 = .ok (.newarray .byte, 2) := by decide +kernel
theorem dX0_init_41 : decode cX0_init 41 = .ok (.putfield 22, 3) := by decide +kernel
theorem dX0_init_44 : decode cX0_init 44 = .ok (.aload_n 0, 1) := by decide +kernel
theorem dX0_init_45 : decode cX0_init 45 = .ok (.bipush 12, 2) := by decide +kernel
theorem dX0_init_47 : decode cX0_init 47 = .ok (.newarray .byte, 2) := by decide +kernel
theorem dX0_init_49 : decode cX0_init 49 = .ok (.putfield 25, 3) := by decide +kernel
theorem dX0_init_52 : decode cX0_init 52 = .ok (.aload_n 0, 1) := by decide +kernel
theorem dX0_init_53 : decode cX0_init 53 = .ok (.bipush 12, 2) := by decide +kernel
theorem dX0_init_55 : decode cX0_init 55 = .ok (.newarray .int, 2) := by decide +kernel
theorem dX0_init_57 : decode cX0_init 57 = .ok (.putfield 28, 3) := by decide +kernel
theorem dX0_init_60 : decode cX0_init 60 = .ok (.aload_n 0, 1) := by decide +kernel
theorem dX0_init_61 : decode cX0_init 61 = .ok (.bipush 12, 2) := by decide +kernel
theorem dX0_init_63 : decode cX0_init 63 = .ok (.newarray .byte, 2) := by decide +kernel
theorem dX0_init_65 : decode cX0_init 65 = .ok (.putfield 32, 3) := by decide +kernel
theorem dX0_init_68 : decode cX0_init 68 = .ok (.aload_n 0, 1) := by decide +kernel
theorem dX0_init_69 : decode cX0_init 69 = .ok (.bipush 12, 2) := by decide +kernel
theorem dX0_init_71 : decode cX0_init 71 = .ok (.newarray .byte, 2) := by decide +kernel
theorem dX0_init_73 : decode cX0_init 73 = .ok (.putfield 35, 3) := by decide +kernel
theorem dX0_init_76 : decode cX0_init 76 = .ok (.return_, 1) := by decide +kernel
theorem dX0_wire_0 : decode cX0_wire 0 = .ok (.iload_n 2, 1) := by decide +kernel
theorem dX0_wire_1 : decode cX0_wire 1 = .ok (.ifCond .lt 34, 3) := by decide +kernel
theorem dX0_wire_4 : decode cX0_wire 4 = .ok (.iload_n 2, 1) := by decide +kernel
theorem dX0_wire_5 : decode cX0_wire 5 = .ok (.bipush 8, 2) := by decide +kernel
theorem dX0_wire_7 : decode cX0_wire 7 = .ok (.if_icmp .gt 28, 3) := by decide +kernel
theorem dX0_wire_10 : decode cX0_wire 10 = .ok (.aload_n 0, 1) := by decide +kernel
theorem dX0_wire_11 : decode cX0_wire 11 = .ok (.iload_n 1, 1) := by decide +kernel
theorem dX0_wire_12 : decode cX0_wire 12 = .ok (.invokevirtual 38, 3) := by decide +kernel
theorem dX0_wire_15 : decode cX0_wire 15 = .ok (.ifCond .eq 20, 3) := by decide +kernel
theorem dX0_wire_18 : decode cX0_wire 18 = .ok (.aload_n 0, 1) := by decide +kernel
theorem dX0_wire_19 : decode cX0_wire 19 = .ok (.iload_n 3, 1) := by decide +kernel
theorem dX0_wire_20 : decode cX0_wire 20 = .ok (.invokevirtual 38, 3) := by decide +kernel
theorem dX0_wire_23 : decode cX0_wire 23 = .ok (.ifCond .eq 12, 3) := by decide +kernel
theorem dX0_wire_26 : decode cX0_wire 26 = .ok (.aload_n 0, 1) := by decide +kernel
theorem dX0_wire_27 : decode cX0_wire 27 = .ok (.iload 4, 2) := by decide +kernel
theorem dX0_wire_29 : decode cX0_wire 29 = .ok (.invokevirtual 38, 3) := by decide +kernel
theorem dX0_wire_32 : decode cX0_wire 32 = .ok (.ifCond .ne 5, 3) := by decide +kernel
theorem dX0_wire_35 : decode cX0_wire 35 = .ok (.iconst (-1), 1) := by decide +kernel
theorem dX0_wire_36 : decode cX0_wire 36 = .ok (.ireturn, 1) := by decide +kernel
theorem dX0_wire_37 : decode cX0_wire 37 = .ok (.aload_n 0, 1) := by decide +kernel
theorem dX0_wire_38 : decode cX0_wire 38 = .ok (.iload_n 1, 1) := by decide +kernel
theorem dX0_wire_39 : decode cX0_wire 39 = .ok (.invokevirtual 42, 3) := by decide +kernel
theorem dX0_wire_42 : decode cX0_wire 42 = .ok (.ifCond .eq 6, 3) := by decide +kernel
theorem dX0_wire_45 : decode cX0_wire 45 = .ok (.bipush (-3), 2) := by decide +kernel
theorem dX0_wire_47 : decode cX0_wire 47 = .ok (.ireturn, 1) := by decide +kernel
theorem dX0_wire_48 : decode cX0_wire 48 = .ok (.aload_n 0, 1) := by decide +kernel
theorem dX0_wire_49 : decode cX0_wire 49 = .ok (.iload_n 1, 1) := by decide +kernel
theorem dX0_wire_50 : decode cX0_wire 50 = .ok (.iload_n 3, 1) := by decide +kernel
theorem dX0_wire_51 : decode cX0_wire 51 = .ok (.invokevirtual 45, 3) := by decide +kernel
theorem dX0_wire_54 : decode cX0_wire 54 = .ok (.ifCond .ne 13, 3) := by decide +kernel
theorem dX0_wire_57 : decode cX0_wire 57 = .ok (.aload_n 0, 1) := by decide +kernel
theorem dX0_wire_58 : decode cX0_wire 58 = .ok (.iload_n 1, 1) := by decide +kernel
theorem dX0_wire_59 : decode cX0_wire 59 = .ok (.iload 4, 2) := by decide +kernel
theorem dX0_wire_61 : decode cX0_wire 61 = .ok (.invokevirtual 45, 3) := by decide +kernel
theorem dX0_wire_64 : decode cX0_wire 64 = .ok (.ifCond .eq 6, 3) := by decide +kernel
theorem dX0_wire_67 : decode cX0_wire 67 = .ok (.bipush (-2), 2) := by decide +kernel
theorem dX0_wire_69 : decode cX0_wire 69 = .ok (.ireturn, 1) := by decide +kernel
theorem dX0_wire_70 : decode cX0_wire 70 = .ok (.aload_n 0, 1) := by decide +kernel
theorem dX0_wire_71 : decode cX0_wire 71 = .ok (.iload_n 1, 1) := by decide +kernel
theorem dX0_wire_72 : decode cX0_wire 72 = .ok (.iconst 1, 1) := by decide +kernel
theorem dX0_wire_73 : decode cX0_wire 73 = .ok (.iload_n 2, 1) := by decide +kernel
theorem dX0_wire_74 : decode cX0_wire 74 = .ok (.iload_n 3, 1) := by decide +kernel
theorem dX0_wire_75 : decode cX0_wire 75 = .ok (.iload 4, 2) := by decide +kernel
theorem dX0_wire_77 : decode cX0_wire 77 = .ok (.invokevirtual 49, 3) := by decide +kernel
theorem dX0_wire_80 : decode cX0_wire 80 = .ok (.aload_n 0, 1) := by decide +kernel
theorem dX0_wire_81 : decode cX0_wire 81 = .ok (.getfield 13, 3) := by decide +kernel
theorem dX0_wire_84 : decode cX0_wire 84 = .ok (.iload_n 1, 1) := by decide +kernel
theorem dX0_wire_85 : decode cX0_wire 85 = .ok (.baload, 1) := by decide +kernel
theorem dX0_wire_86 : decode cX0_wire 86 = .ok (.ireturn, 1) := by decide +kernel
theorem dX0_isSignal_0 : decode cX0_isSignal 0 = .ok (.iload_n 1, 1) := by decide +kernel
theorem dX0_isSignal_1 : decode cX0_isSignal 1 = .ok (.ifCond .lt 13, 3) := by decide +kernel
theorem dX0_isSignal_4 : decode cX0_isSignal 4 = .ok (.iload_n 1, 1) := by decide +kernel
theorem dX0_isSignal_5 : decode cX0_isSignal 5 = .ok (.bipush 11, 2) := by decide +kernel
theorem dX0_isSignal_7 : decode cX0_isSignal 7 = .ok (.if_icmp .gt 7, 3) := by decide +kernel
theorem dX0_isSignal_10 : decode cX0_isSignal 10 = .ok (.iconst 1, 1) := by decide +kernel
theorem dX0_isSignal_11 : decode cX0_isSignal 11 = .ok (.goto 4, 3) := by decide +kernel
theorem dX0_isSignal_14 : decode cX0_isSignal 14 = .ok (.iconst 0, 1) := by decide +kernel
theorem dX0_isSignal_15 : decode cX0_isSignal 15 = .ok (.ireturn, 1) := by decide +kernel
theorem dX0_isClock_0 : decode cX0_isClock 0 = .ok (.iconst 0, 1) := by decide +kernel
theorem dX0_isClock_1 : decode cX0_isClock 1 = .ok (.istore_n 2, 1) := by decide +kernel
theorem dX0_isClock_2 : decode cX0_isClock 2 = .ok (.iload_n 2, 1) := by decide +kernel
theorem dX0_isClock_3 : decode cX0_isClock 3 = .ok (.bipush 12, 2) := by decide +kernel
theorem dX0_isClock_5 : decode cX0_isClock 5 = .ok (.if_icmp .ge 31, 3) := by decide +kernel
theorem dX0_isClock_8 : decode cX0_isClock 8 = .ok (.aload_n 0, 1) := by decide +kernel
theorem dX0_isClock_9 : decode cX0_isClock 9 = .ok (.getfield 7, 3) := by decide +kernel
theorem dX0_isClock_12 : decode cX0_isClock 12 = .ok (.iload_n 2, 1) := by decide +kernel
theorem dX0_isClock_13 : decode cX0_isClock 13 = .ok (.baload, 1) := by decide +kernel
theorem dX0_isClock_14 : decode cX0_isClock 14 = .ok (.iconst 2, 1) := by decide +kernel
theorem dX0_isClock_15 : decode cX0_isClock 15 = .ok (.if_icmp .ne 15, 3) := by decide +kernel
theorem dX0_isClock_18 : decode cX0_isClock 18 = .ok (.aload_n 0, 1) := by decide +kernel
theorem dX0_isClock_19 : decode cX0_isClock 19 = .ok (.getfield 25, 3) := by decide +kernel
theorem dX0_isClock_22 : decode cX0_isClock 22 = .ok (.iload_n 2, 1) := by decide +kernel
theorem dX0_isClock_23 : decode cX0_isClock 23 = .ok (.baload, 1) := by decide +kernel
theorem dX0_isClock_24 : decode cX0_isClock 24 = .ok (.iload_n 1, 1) := by decide +kernel
theorem dX0_isClock_25 : decode cX0_isClock 25 = .ok (.if_icmp .ne 5, 3) := by decide +kernel
theorem dX0_isClock_28 : decode cX0_isClock 28 = .ok (.iconst 1, 1) := by decide +kernel
theorem dX0_isClock_29 : decode cX0_isClock 29 = .ok (.ireturn, 1) := by decide +kernel
theorem dX0_isClock_30 : decode cX0_isClock 30 = .ok (.iinc 2 1, 3) := by decide +kernel
theorem dX0_isClock_33 : decode cX0_isClock 33 = .ok (.goto (-31), 3) := by decide +kernel
theorem dX0_isClock_36 : decode cX0_isClock 36 = .ok (.iconst 0, 1) := by decide +kernel
theorem dX0_isClock_37 : decode cX0_isClock 37 = .ok (.ireturn, 1) := by decide +kernel
theorem dX0_leadsTo_0 : decode cX0_leadsTo 0 = .ok (.iload_n 1, 1) := by decide +kernel
theorem dX0_leadsTo_1 : decode cX0_leadsTo 1 = .ok (.iload_n 2, 1) := by decide +kernel
theorem dX0_leadsTo_2 : decode cX0_leadsTo 2 = .ok (.if_icmp .ne 5, 3) := by decide +kernel
theorem dX0_leadsTo_5 : decode cX0_leadsTo 5 = .ok (.iconst 1, 1) := by decide +kernel
theorem dX0_leadsTo_6 : decode cX0_leadsTo 6 = .ok (.ireturn, 1) := by decide +kernel
theorem dX0_leadsTo_7 : decode cX0_leadsTo 7 = .ok (.aload_n 0, 1) := by decide +kernel
theorem dX0_leadsTo_8 : decode cX0_leadsTo 8 = .ok (.iload_n 1, 1) := by decide +kernel
theorem dX0_leadsTo_9 : decode cX0_leadsTo 9 = .ok (.invokevirtual 53, 3) := by decide +kernel
theorem dX0_leadsTo_12 : decode cX0_leadsTo 12 = .ok (.istore_n 3, 1) := by decide +kernel
theorem dX0_leadsTo_13 : decode cX0_leadsTo 13 = .ok (.iload_n 3, 1) := by decide +kernel
theorem dX0_leadsTo_14 : decode cX0_leadsTo 14 = .ok (.iload_n 2, 1) := by decide +kernel
theorem dX0_leadsTo_15 : decode cX0_leadsTo 15 = .ok (.ishr, 1) := by decide +kernel
theorem dX0_leadsTo_16 : decode cX0_leadsTo 16 = .ok (.iconst 1, 1) := by decide +kernel
theorem dX0_leadsTo_17 : decode cX0_leadsTo 17 = .ok (.iand, 1) := by decide +kernel
theorem dX0_leadsTo_18 : decode cX0_leadsTo 18 = .ok (.ifCond .eq 7, 3) := by decide +kernel
theorem dX0_leadsTo_21 : decode cX0_leadsTo 21 = .ok (.iconst 1, 1) := by decide +kernel
theorem dX0_leadsTo_22 : decode cX0_leadsTo 22 = .ok (.goto 4, 3) := by decide +kernel
theorem dX0_leadsTo_25 : decode cX0_leadsTo 25 = .ok (.iconst 0, 1) := by decide +kernel
theorem dX0_leadsTo_26 : decode cX0_leadsTo 26 = .ok (.ireturn, 1) := by decide +kernel
theorem dX0_hangingOn_0 : decode cX0_hangingOn 0 = .ok (.aload_n 0, 1) := by decide +kernel
theorem dX0_hangingOn_1 : decode cX0_hangingOn 1 = .ok (.getfield 28, 3) := by decide +kernel
theorem dX0_hangingOn_4 : decode cX0_hangingOn 4 = .ok (.iload_n 1, 1) := by decide +kernel
theorem dX0_hangingOn_5 : decode cX0_hangingOn 5 = .ok (.iaload, 1) := by decide +kernel
theorem dX0_hangingOn_6 : decode cX0_hangingOn 6 = .ok (.istore_n 2, 1) := by decide +kernel
theorem dX0_hangingOn_7 : decode cX0_hangingOn 7 = .ok (.iconst 0, 1) := by decide +kernel
theorem dX0_hangingOn_8 : decode cX0_hangingOn 8 = .ok (.istore_n 3, 1) := by decide +kernel
theorem dX0_hangingOn_9 : decode cX0_hangingOn 9 = .ok (.iload_n 3, 1) := by decide +kernel
theorem dX0_hangingOn_10 : decode cX0_hangingOn 10 = .ok (.bipush 12, 2) := by decide +kernel
theorem dX0_hangingOn_12 : decode cX0_hangingOn 12 = .ok (.if_icmp .ge 44, 3) := by decide +kernel
theorem dX0_hangingOn_15 : decode cX0_hangingOn 15 = .ok (.iconst 0, 1) := by decide +kernel
theorem dX0_hangingOn_16 : decode cX0_hangingOn 16 = .ok (.istore 4, 2) := by decide +kernel
theorem dX0_hangingOn_18 : decode cX0_hangingOn 18 = .ok (.iload 4, 2) := by decide +kernel
theorem dX0_hangingOn_20 : decode cX0_hangingOn 20 = .ok (.bipush 12, 2) := by decide +kernel
theorem dX0_hangingOn_22 : decode cX0_hangingOn 22 = .ok (.if_icmp .ge 28, 3) := by decide +kernel
theorem dX0_hangingOn_25 : decode cX0_hangingOn 25 = .ok (.iload_n 2, 1) := by decide +kernel
theorem dX0_hangingOn_26 : decode cX0_hangingOn 26 = .ok (.iload 4, 2) := by decide +kernel
theorem dX0_hangingOn_28 : decode cX0_hangingOn 28 = .ok (.ishr, 1) := by decide +kernel
theorem dX0_hangingOn_29 : decode cX0_hangingOn 29 = .ok (.iconst 1, 1) := by decide +kernel
theorem dX0_hangingOn_30 : decode cX0_hangingOn 30 = .ok (.iand, 1) := by decide +kernel
theorem dX0_hangingOn_31 : decode cX0_hangingOn 31 = .ok (.ifCond .eq 13, 3) := by decide +kernel
theorem dX0_hangingOn_34 : decode cX0_hangingOn 34 = .ok (.iload_n 2, 1) := by decide +kernel
theorem dX0_hangingOn_35 : decode cX0_hangingOn 35 = .ok (.aload_n 0, 1) := by decide +kernel
theorem dX0_hangingOn_36 : decode cX0_hangingOn 36 = .ok (.getfield 28, 3) := by decide +kernel
theorem dX0_hangingOn_39 : decode cX0_hangingOn 39 = .ok (.iload 4, 2) := by decide +kernel
theorem dX0_hangingOn_41 : decode cX0_hangingOn 41 = .ok (.iaload, 1) := by decide +kernel
theorem dX0_hangingOn_42 : decode cX0_hangingOn 42 = .ok (.ior, 1) := by decide +kernel
theorem dX0_hangingOn_43 : decode cX0_hangingOn 43 = .ok (.istore_n 2, 1) := by decide +kernel
theorem dX0_hangingOn_44 : decode cX0_hangingOn 44 = .ok (.iinc 4 1, 3) := by decide +kernel
theorem dX0_hangingOn_47 : decode cX0_hangingOn 47 = .ok (.goto (-29), 3) := by decide +kernel
theorem dX0_hangingOn_50 : decode cX0_hangingOn 50 = .ok (.iinc 3 1, 3) := by decide +kernel
theorem dX0_hangingOn_53 : decode cX0_hangingOn 53 = .ok (.goto (-44), 3) := by decide +kernel
theorem dX0_hangingOn_56 : decode cX0_hangingOn 56 = .ok (.iload_n 2, 1) := by decide +kernel
theorem dX0_hangingOn_57 : decode cX0_hangingOn 57 = .ok (.ireturn, 1) := by decide +kernel
theorem dX0_define_0 : decode cX0_define 0 = .ok (.aload_n 0, 1) := by decide +kernel
theorem dX0_define_1 : decode cX0_define 1 = .ok (.getfield 7, 3) := by decide +kernel
theorem dX0_define_4 : decode cX0_define 4 = .ok (.iload_n 1, 1) := by decide +kernel
theorem dX0_define_5 : decode cX0_define 5 = .ok (.iload_n 2, 1) := by decide +kernel
theorem dX0_define_6 : decode cX0_define 6 = .ok (.i2b, 1) := by decide +kernel
theorem dX0_define_7 : decode cX0_define 7 = .ok (.bastore, 1) := by decide +kernel
theorem dX0_define_8 : decode cX0_define 8 = .ok (.aload_n 0, 1) := by decide +kernel
theorem dX0_define_9 : decode cX0_define 9 = .ok (.getfield 16, 3) := by decide +kernel
theorem dX0_define_12 : decode cX0_define 12 = .ok (.iload_n 1, 1) := by decide +kernel
theorem dX0_define_13 : decode cX0_define 13 = .ok (.iload_n 3, 1) := by decide +kernel
theorem dX0_define_14 : decode cX0_define 14 = .ok (.i2b, 1) := by decide +kernel
theorem dX0_define_15 : decode cX0_define 15 = .ok (.bastore, 1) := by decide +kernel
theorem dX0_define_16 : decode cX0_define 16 = .ok (.aload_n 0, 1) := by decide +kernel
theorem dX0_define_17 : decode cX0_define 17 = .ok (.getfield 19, 3) := by decide +kernel
theorem dX0_define_20 : decode cX0_define 20 = .ok (.iload_n 1, 1) := by decide +kernel
theorem dX0_define_21 : decode cX0_define 21 = .ok (.iload 4, 2) := by decide +kernel
theorem dX0_define_23 : decode cX0_define 23 = .ok (.i2b, 1) := by decide +kernel
theorem dX0_define_24 : decode cX0_define 24 = .ok (.bastore, 1) := by decide +kernel
theorem dX0_define_25 : decode cX0_define 25 = .ok (.aload_n 0, 1) := by decide +kernel
theorem dX0_define_26 : decode cX0_define 26 = .ok (.getfield 22, 3) := by decide +kernel
theorem dX0_define_29 : decode cX0_define 29 = .ok (.iload_n 1, 1) := by decide +kernel
theorem dX0_define_30 : decode cX0_define 30 = .ok (.iload 5, 2) := by decide +kernel
theorem dX0_define_32 : decode cX0_define 32 = .ok (.i2b, 1) := by decide +kernel
theorem dX0_define_33 : decode cX0_define 33 = .ok (.bastore, 1) := by decide +kernel
theorem dX0_define_34 : decode cX0_define 34 = .ok (.aload_n 0, 1) := by decide +kernel
theorem dX0_define_35 : decode cX0_define 35 = .ok (.invokevirtual 57, 3) := by decide +kernel
theorem dX0_define_38 : decode cX0_define 38 = .ok (.iload_n 2, 1) := by decide +kernel
theorem dX0_define_39 : decode cX0_define 39 = .ok (.iconst 1, 1) := by decide +kernel
theorem dX0_define_40 : decode cX0_define 40 = .ok (.if_icmp .ne 15, 3) := by decide +kernel
theorem dX0_define_43 : decode cX0_define 43 = .ok (.aload_n 0, 1) := by decide +kernel
theorem dX0_define_44 : decode cX0_define 44 = .ok (.dup, 1) := by decide +kernel
theorem dX0_define_45 : decode cX0_define 45 = .ok (.getfield 60, 3) := by decide +kernel
theorem dX0_define_48 : decode cX0_define 48 = .ok (.iconst 1, 1) := by decide +kernel
theorem dX0_define_49 : decode cX0_define 49 = .ok (.iload_n 1, 1) := by decide +kernel
theorem dX0_define_50 : decode cX0_define 50 = .ok (.ishl, 1) := by decide +kernel
theorem dX0_define_51 : decode cX0_define 51 = .ok (.ior, 1) := by decide +kernel
theorem dX0_define_52 : decode cX0_define 52 = .ok (.putfield 60, 3) := by decide +kernel
theorem dX0_define_55 : decode cX0_define 55 = .ok (.aload_n 0, 1) := by decide +kernel
theorem dX0_define_56 : decode cX0_define 56 = .ok (.invokevirtual 64, 3) := by decide +kernel
theorem dX0_define_59 : decode cX0_define 59 = .ok (.pop, 1) := by decide +kernel
theorem dX0_define_60 : decode cX0_define 60 = .ok (.return_, 1) := by decide +kernel
theorem dX0_connect_0 : decode cX0_connect 0 = .ok (.iconst 0, 1) := by decide +kernel
theorem dX0_connect_1 : decode cX0_connect 1 = .ok (.istore_n 1, 1) := by decide +kernel
theorem dX0_connect_2 : decode cX0_connect 2 = .ok (.iload_n 1, 1) := by decide +kernel
theorem dX0_connect_3 : decode cX0_connect 3 = .ok (.bipush 12, 2) := by decide +kernel
theorem dX0_connect_5 : decode cX0_connect 5 = .ok (.if_icmp .ge 23, 3) := by decide +kernel
theorem dX0_connect_8 : decode cX0_connect 8 = .ok (.aload_n 0, 1) := by decide +kernel
theorem dX0_connect_9 : decode cX0_connect 9 = .ok (.getfield 28, 3) := by decide +kernel
theorem dX0_connect_12 : decode cX0_connect 12 = .ok (.iload_n 1, 1) := by decide +kernel
theorem dX0_connect_13 : decode cX0_connect 13 = .ok (.iconst 0, 1) := by decide +kernel
theorem dX0_connect_14 : decode cX0_connect 14 = .ok (.iastore, 1) := by decide +kernel
theorem dX0_connect_15 : decode cX0_connect 15 = .ok (.aload_n 0, 1) := by decide +kernel
theorem dX0_connect_16 : decode cX0_connect 16 = .ok (.getfield 32, 3) := by decide +kernel
theorem dX0_connect_19 : decode cX0_connect 19 = .ok (.iload_n 1, 1) := by decide +kernel
theorem dX0_connect_20 : decode cX0_connect 20 = .ok (.iconst 0, 1) := by decide +kernel
theorem dX0_connect_21 : decode cX0_connect 21 = .ok (.bastore, 1) := by decide +kernel
theorem dX0_connect_22 : decode cX0_connect 22 = .ok (.iinc 1 1, 3) := by decide +kernel
theorem dX0_connect_25 : decode cX0_connect 25 = .ok (.goto (-23), 3) := by decide +kernel
theorem dX0_connect_28 : decode cX0_connect 28 = .ok (.iconst 0, 1) := by decide +kernel
theorem dX0_connect_29 : decode cX0_connect 29 = .ok (.istore_n 1, 1) := by decide +kernel
theorem dX0_connect_30 : decode cX0_connect 30 = .ok (.iload_n 1, 1) := by decide +kernel
theorem dX0_connect_31 : decode cX0_connect 31 = .ok (.bipush 12, 2) := by decide +kernel
theorem dX0_connect_33 : decode cX0_connect 33 = .ok (.if_icmp .ge 56, 3) := by decide +kernel
theorem dX0_connect_36 : decode cX0_connect 36 = .ok (.aload_n 0, 1) := by decide +kernel
theorem dX0_connect_37 : decode cX0_connect 37 = .ok (.getfield 7, 3) := by decide +kernel
theorem dX0_connect_40 : decode cX0_connect 40 = .ok (.iload_n 1, 1) := by decide +kernel
theorem dX0_connect_41 : decode cX0_connect 41 = .ok (.baload, 1) := by decide +kernel
theorem dX0_connect_42 : decode cX0_connect 42 = .ok (.iconst 1, 1) := by decide +kernel
theorem dX0_connect_43 : decode cX0_connect 43 = .ok (.if_icmp .eq 6, 3) := by decide +kernel
theorem dX0_connect_46 : decode cX0_connect 46 = .ok (.goto 37, 3) := by decide +kernel
theorem dX0_connect_49 : decode cX0_connect 49 = .ok (.aload_n 0, 1) := by decide +kernel
theorem dX0_connect_50 : decode cX0_connect 50 = .ok (.getfield 28, 3) := by decide +kernel
theorem dX0_connect_53 : decode cX0_connect 53 = .ok (.aload_n 0, 1) := by decide +kernel
theorem dX0_connect_54 : decode cX0_connect 54 = .ok (.getfield 19, 3) := by decide +kernel
theorem dX0_connect_57 : decode cX0_connect 57 = .ok (.iload_n 1, 1) := by decide +kernel
theorem dX0_connect_58 : decode cX0_connect 58 = .ok (.baload, 1) := by decide +kernel
theorem dX0_connect_59 : decode cX0_connect 59 = .ok (.dup2, 1) := by decide +kernel
theorem dX0_connect_60 : decode cX0_connect 60 = .ok (.iaload, 1) := by decide +kernel
theorem dX0_connect_61 : decode cX0_connect 61 = .ok (.iconst 1, 1) := by decide +kernel
theorem dX0_connect_62 : decode cX0_connect 62 = .ok (.iload_n 1, 1) := by decide +kernel
theorem dX0_connect_63 : decode cX0_connect 63 = .ok (.ishl, 1) := by decide +kernel
theorem dX0_connect_64 : decode cX0_connect 64 = .ok (.ior, 1) := by decide +kernel
theorem dX0_connect_65 : decode cX0_connect 65 = .ok (.iastore, 1) := by decide +kernel
theorem dX0_connect_66 : decode cX0_connect 66 = .ok (.aload_n 0, 1) := by decide +kernel
theorem dX0_connect_67 : decode cX0_connect 67 = .ok (.getfield 28, 3) := by decide +kernel
theorem dX0_connect_70 : decode cX0_connect 70 = .ok (.aload_n 0, 1) := by decide +kernel
theorem dX0_connect_71 : decode cX0_connect 71 = .ok (.getfield 22, 3) := by decide +kernel
theorem dX0_connect_74 : decode cX0_connect 74 = .ok (.iload_n 1, 1) := by decide +kernel
theorem dX0_connect_75 : decode cX0_connect 75 = .ok (.baload, 1) := by decide +kernel
theorem dX0_connect_76 : decode cX0_connect 76 = .ok (.dup2, 1) := by decide +kernel
theorem dX0_connect_77 : decode cX0_connect 77 = .ok (.iaload, 1) := by decide +kernel
theorem dX0_connect_78 : decode cX0_connect 78 = .ok (.iconst 1, 1) := by decide +kernel
theorem dX0_connect_79 : decode cX0_connect 79 = .ok (.iload_n 1, 1) := by decide +kernel
theorem dX0_connect_80 : decode cX0_connect 80 = .ok (.ishl, 1) := by decide +kernel
theorem dX0_connect_81 : decode cX0_connect 81 = .ok (.ior, 1) := by decide +kernel
theorem dX0_connect_82 : decode cX0_connect 82 = .ok (.iastore, 1) := by decide +kernel
theorem dX0_connect_83 : decode cX0_connect 83 = .ok (.iinc 1 1, 3) := by decide +kernel
theorem dX0_connect_86 : decode cX0_connect 86 = .ok (.goto (-56), 3) := by decide +kernel
theorem dX0_connect_89 : decode cX0_connect 89 = .ok (.iconst 0, 1) := by decide +kernel
theorem dX0_connect_90 : decode cX0_connect 90 = .ok (.istore_n 1, 1) := by decide +kernel
theorem dX0_connect_91 : decode cX0_connect 91 = .ok (.iload_n 1, 1) := by decide +kernel
theorem dX0_connect_92 : decode cX0_connect 92 = .ok (.bipush 12, 2) := by decide +kernel
theorem dX0_connect_94 : decode cX0_connect 94 = .ok (.if_icmp .ge 97, 3) := by decide +kernel
theorem dX0_connect_97 : decode cX0_connect 97 = .ok (.iconst 0, 1) := by decide +kernel
theorem dX0_connect_98 : decode cX0_connect 98 = .ok (.istore_n 2, 1) := by decide +kernel
theorem dX0_connect_99 : decode cX0_connect 99 = .ok (.iload_n 2, 1) := by decide +kernel
theorem dX0_connect_100 : decode cX0_connect 100 = .ok (.bipush 12, 2) := by decide +kernel
theorem dX0_connect_102 : decode cX0_connect 102 = .ok (.if_icmp .ge 83, 3) := by decide +kernel
theorem dX0_connect_105 : decode cX0_connect 105 = .ok (.aload_n 0, 1) := by decide +kernel
theorem dX0_connect_106 : decode cX0_connect 106 = .ok (.getfield 7, 3) := by decide +kernel
theorem dX0_connect_109 : decode cX0_connect 109 = .ok (.iload_n 2, 1) := by decide +kernel
theorem dX0_connect_110 : decode cX0_connect 110 = .ok (.baload, 1) := by decide +kernel
theorem dX0_connect_111 : decode cX0_connect 111 = .ok (.iconst 1, 1) := by decide +kernel
theorem dX0_connect_112 : decode cX0_connect 112 = .ok (.if_icmp .eq 6, 3) := by decide +kernel
theorem dX0_connect_115 : decode cX0_connect 115 = .ok (.goto 64, 3) := by decide +kernel
theorem dX0_connect_118 : decode cX0_connect 118 = .ok (.aload_n 0, 1) := by decide +kernel
theorem dX0_connect_119 : decode cX0_connect 119 = .ok (.getfield 32, 3) := by decide +kernel
theorem dX0_connect_122 : decode cX0_connect 122 = .ok (.aload_n 0, 1) := by decide +kernel
theorem dX0_connect_123 : decode cX0_connect 123 = .ok (.getfield 19, 3) := by decide +kernel
theorem dX0_connect_126 : decode cX0_connect 126 = .ok (.iload_n 2, 1) := by decide +kernel
theorem dX0_connect_127 : decode cX0_connect 127 = .ok (.baload, 1) := by decide +kernel
theorem dX0_connect_128 : decode cX0_connect 128 = .ok (.baload, 1) := by decide +kernel
theorem dX0_connect_129 : decode cX0_connect 129 = .ok (.aload_n 0, 1) := by decide +kernel
theorem dX0_connect_130 : decode cX0_connect 130 = .ok (.getfield 32, 3) := by decide +kernel
theorem dX0_connect_133 : decode cX0_connect 133 = .ok (.aload_n 0, 1) := by decide +kernel
theorem dX0_connect_134 : decode cX0_connect 134 = .ok (.getfield 22, 3) := by decide +kernel
theorem dX0_connect_137 : decode cX0_connect 137 = .ok (.iload_n 2, 1) := by decide +kernel
end
section
/-! decode rows -/
set_option maxRecDepth 100000
theorem dX0_connect_138 : decode cX0_connect 138 = .ok (.baload, 1) := by decide +kernel
theorem dX0_connect_139 : decode cX0_connect 139 = .ok (.baload, 1) := by decide +kernel
theorem dX0_connect_140 : decode cX0_connect 140 = .ok (.if_icmp .le 17, 3) := by decide +kernel
theorem dX0_connect_143 : decode cX0_connect 143 = .ok (.aload_n 0, 1) := by decide +kernel
theorem dX0_connect_144 : decode cX0_connect 144 = .ok (.getfield 32, 3) := by decide +kernel
theorem dX0_connect_147 : decode cX0_connect 147 = .ok (.aload_n 0, 1) := by decide +kernel
theorem dX0_connect_148 : decode cX0_connect 148 = .ok (.getfield 19, 3) := by decide +kernel
theorem dX0_connect_151 : decode cX0_connect 151 = .ok (.iload_n 2, 1) := by decide +kernel
theorem dX0_connect_152 : decode cX0_connect 152 = .ok (.baload, 1) := by decide +kernel
theorem dX0_connect_153 : decode cX0_connect 153 = .ok (.baload, 1) := by decide +kernel
theorem dX0_connect_154 : decode cX0_connect 154 = .ok (.goto 14, 3) := by decide +kernel
theorem dX0_connect_157 : decode cX0_connect 157 = .ok (.aload_n 0, 1) := by decide +kernel
theorem dX0_connect_158 : decode cX0_connect 158 = .ok (.getfield 32, 3) := by decide +kernel
theorem dX0_connect_161 : decode cX0_connect 161 = .ok (.aload_n 0, 1) := by decide +kernel
theorem dX0_connect_162 : decode cX0_connect 162 = .ok (.getfield 22, 3) := by decide +kernel
theorem dX0_connect_165 : decode cX0_connect 165 = .ok (.iload_n 2, 1) := by decide +kernel
theorem dX0_connect_166 : decode cX0_connect 166 = .ok (.baload, 1) := by decide +kernel
theorem dX0_connect_167 : decode cX0_connect 167 = .ok (.baload, 1) := by decide +kernel
theorem dX0_connect_168 : decode cX0_connect 168 = .ok (.istore_n 3, 1) := by decide +kernel
theorem dX0_connect_169 : decode cX0_connect 169 = .ok (.aload_n 0, 1) := by decide +kernel
theorem dX0_connect_170 : decode cX0_connect 170 = .ok (.getfield 32, 3) := by decide +kernel
theorem dX0_connect_173 : decode cX0_connect 173 = .ok (.iload_n 2, 1) := by decide +kernel
theorem dX0_connect_174 : decode cX0_connect 174 = .ok (.iload_n 3, 1) := by decide +kernel
theorem dX0_connect_175 : decode cX0_connect 175 = .ok (.iconst 1, 1) := by decide +kernel
theorem dX0_connect_176 : decode cX0_connect 176 = .ok (.iadd, 1) := by decide +kernel
theorem dX0_connect_177 : decode cX0_connect 177 = .ok (.i2b, 1) := by decide +kernel
theorem dX0_connect_178 : decode cX0_connect 178 = .ok (.bastore, 1) := by decide +kernel
theorem dX0_connect_179 : decode cX0_connect 179 = .ok (.iinc 2 1, 3) := by decide +kernel
theorem dX0_connect_182 : decode cX0_connect 182 = .ok (.goto (-83), 3) := by decide +kernel
theorem dX0_connect_185 : decode cX0_connect 185 = .ok (.iinc 1 1, 3) := by decide +kernel
theorem dX0_connect_188 : decode cX0_connect 188 = .ok (.goto (-97), 3) := by decide +kernel
theorem dX0_connect_191 : decode cX0_connect 191 = .ok (.return_, 1) := by decide +kernel
theorem dX0_settle_0 : decode cX0_settle 0 = .ok (.iconst 0, 1) := by decide +kernel
theorem dX0_settle_1 : decode cX0_settle 1 = .ok (.istore_n 1, 1) := by decide +kernel
theorem dX0_settle_2 : decode cX0_settle 2 = .ok (.iconst 0, 1) := by decide +kernel
theorem dX0_settle_3 : decode cX0_settle 3 = .ok (.istore_n 2, 1) := by decide +kernel
theorem dX0_settle_4 : decode cX0_settle 4 = .ok (.iload_n 2, 1) := by decide +kernel
theorem dX0_settle_5 : decode cX0_settle 5 = .ok (.bipush 12, 2) := by decide +kernel
theorem dX0_settle_7 : decode cX0_settle 7 = .ok (.if_icmp .ge 67, 3) := by decide +kernel
theorem dX0_settle_10 : decode cX0_settle 10 = .ok (.aload_n 0, 1) := by decide +kernel
theorem dX0_settle_11 : decode cX0_settle 11 = .ok (.getfield 60, 3) := by decide +kernel
theorem dX0_settle_14 : decode cX0_settle 14 = .ok (.ifCond .eq 60, 3) := by decide +kernel
theorem dX0_settle_17 : decode cX0_settle 17 = .ok (.aload_n 0, 1) := by decide +kernel
theorem dX0_settle_18 : decode cX0_settle 18 = .ok (.invokevirtual 89, 3) := by decide +kernel
theorem dX0_settle_21 : decode cX0_settle 21 = .ok (.istore_n 3, 1) := by decide +kernel
theorem dX0_settle_22 : decode cX0_settle 22 = .ok (.aload_n 0, 1) := by decide +kernel
theorem dX0_settle_23 : decode cX0_settle 23 = .ok (.dup, 1) := by decide +kernel
theorem dX0_settle_24 : decode cX0_settle 24 = .ok (.getfield 60, 3) := by decide +kernel
theorem dX0_settle_27 : decode cX0_settle 27 = .ok (.iconst 1, 1) := by decide +kernel
theorem dX0_settle_28 : decode cX0_settle 28 = .ok (.iload_n 3, 1) := by decide +kernel
theorem dX0_settle_29 : decode cX0_settle 29 = .ok (.ishl, 1) := by decide +kernel
theorem dX0_settle_30 : decode cX0_settle 30 = .ok (.iconst (-1), 1) := by decide +kernel
theorem dX0_settle_31 : decode cX0_settle 31 = .ok (.ixor, 1) := by decide +kernel
theorem dX0_settle_32 : decode cX0_settle 32 = .ok (.iand, 1) := by decide +kernel
theorem dX0_settle_33 : decode cX0_settle 33 = .ok (.putfield 60, 3) := by decide +kernel
theorem dX0_settle_36 : decode cX0_settle 36 = .ok (.aload_n 0, 1) := by decide +kernel
theorem dX0_settle_37 : decode cX0_settle 37 = .ok (.getfield 13, 3) := by decide +kernel
theorem dX0_settle_40 : decode cX0_settle 40 = .ok (.iload_n 3, 1) := by decide +kernel
theorem dX0_settle_41 : decode cX0_settle 41 = .ok (.baload, 1) := by decide +kernel
theorem dX0_settle_42 : decode cX0_settle 42 = .ok (.istore 4, 2) := by decide +kernel
theorem dX0_settle_44 : decode cX0_settle 44 = .ok (.aload_n 0, 1) := by decide +kernel
theorem dX0_settle_45 : decode cX0_settle 45 = .ok (.iload_n 3, 1) := by decide +kernel
theorem dX0_settle_46 : decode cX0_settle 46 = .ok (.invokevirtual 86, 3) := by decide +kernel
theorem dX0_settle_49 : decode cX0_settle 49 = .ok (.istore 5, 2) := by decide +kernel
theorem dX0_settle_51 : decode cX0_settle 51 = .ok (.aload_n 0, 1) := by decide +kernel
theorem dX0_settle_52 : decode cX0_settle 52 = .ok (.iload_n 3, 1) := by decide +kernel
theorem dX0_settle_53 : decode cX0_settle 53 = .ok (.iload 5, 2) := by decide +kernel
theorem dX0_settle_55 : decode cX0_settle 55 = .ok (.invokevirtual 82, 3) := by decide +kernel
theorem dX0_settle_58 : decode cX0_settle 58 = .ok (.iload 4, 2) := by decide +kernel
theorem dX0_settle_60 : decode cX0_settle 60 = .ok (.iload 5, 2) := by decide +kernel
theorem dX0_settle_62 : decode cX0_settle 62 = .ok (.if_icmp .eq 6, 3) := by decide +kernel
theorem dX0_settle_65 : decode cX0_settle 65 = .ok (.iinc 1 1, 3) := by decide +kernel
theorem dX0_settle_68 : decode cX0_settle 68 = .ok (.iinc 2 1, 3) := by decide +kernel
theorem dX0_settle_71 : decode cX0_settle 71 = .ok (.goto (-67), 3) := by decide +kernel
theorem dX0_settle_74 : decode cX0_settle 74 = .ok (.iload_n 1, 1) := by decide +kernel
theorem dX0_settle_75 : decode cX0_settle 75 = .ok (.ireturn, 1) := by decide +kernel
theorem dX0_lowestAwake_0 : decode cX0_lowestAwake 0 = .ok (.iconst (-1), 1) := by decide +kernel
theorem dX0_lowestAwake_1 : decode cX0_lowestAwake 1 = .ok (.istore_n 1, 1) := by decide +kernel
theorem dX0_lowestAwake_2 : decode cX0_lowestAwake 2 = .ok (.iconst 0, 1) := by decide +kernel
theorem dX0_lowestAwake_3 : decode cX0_lowestAwake 3 = .ok (.istore_n 2, 1) := by decide +kernel
theorem dX0_lowestAwake_4 : decode cX0_lowestAwake 4 = .ok (.iload_n 2, 1) := by decide +kernel
theorem dX0_lowestAwake_5 : decode cX0_lowestAwake 5 = .ok (.bipush 12, 2) := by decide +kernel
theorem dX0_lowestAwake_7 : decode cX0_lowestAwake 7 = .ok (.if_icmp .ge 41, 3) := by decide +kernel
theorem dX0_lowestAwake_10 : decode cX0_lowestAwake 10 = .ok (.aload_n 0, 1) := by decide +kernel
theorem dX0_lowestAwake_11 : decode cX0_lowestAwake 11 = .ok (.getfield 60, 3) := by decide +kernel
theorem dX0_lowestAwake_14 : decode cX0_lowestAwake 14 = .ok (.iload_n 2, 1) := by decide +kernel
theorem dX0_lowestAwake_15 : decode cX0_lowestAwake 15 = .ok (.ishr, 1) := by decide +kernel
theorem dX0_lowestAwake_16 : decode cX0_lowestAwake 16 = .ok (.iconst 1, 1) := by decide +kernel
theorem dX0_lowestAwake_17 : decode cX0_lowestAwake 17 = .ok (.iand, 1) := by decide +kernel
theorem dX0_lowestAwake_18 : decode cX0_lowestAwake 18 = .ok (.ifCond .eq 24, 3) := by decide +kernel
theorem dX0_lowestAwake_21 : decode cX0_lowestAwake 21 = .ok (.iload_n 1, 1) := by decide +kernel
theorem dX0_lowestAwake_22 : decode cX0_lowestAwake 22 = .ok (.ifCond .lt 18, 3) := by decide +kernel
theorem dX0_lowestAwake_25 : decode cX0_lowestAwake 25 = .ok (.aload_n 0, 1) := by decide +kernel
theorem dX0_lowestAwake_26 : decode cX0_lowestAwake 26 = .ok (.getfield 32, 3) := by decide +kernel
theorem dX0_lowestAwake_29 : decode cX0_lowestAwake 29 = .ok (.iload_n 2, 1) := by decide +kernel
theorem dX0_lowestAwake_30 : decode cX0_lowestAwake 30 = .ok (.baload, 1) := by decide +kernel
theorem dX0_lowestAwake_31 : decode cX0_lowestAwake 31 = .ok (.aload_n 0, 1) := by decide +kernel
theorem dX0_lowestAwake_32 : decode cX0_lowestAwake 32 = .ok (.getfield 32, 3) := by decide +kernel
theorem dX0_lowestAwake_35 : decode cX0_lowestAwake 35 = .ok (.iload_n 1, 1) := by decide +kernel
theorem dX0_lowestAwake_36 : decode cX0_lowestAwake 36 = .ok (.baload, 1) := by decide +kernel
theorem dX0_lowestAwake_37 : decode cX0_lowestAwake 37 = .ok (.if_icmp .ge 5, 3) := by decide +kernel
theorem dX0_lowestAwake_40 : decode cX0_lowestAwake 40 = .ok (.iload_n 2, 1) := by decide +kernel
theorem dX0_lowestAwake_41 : decode cX0_lowestAwake 41 = .ok (.istore_n 1, 1) := by decide +kernel
theorem dX0_lowestAwake_42 : decode cX0_lowestAwake 42 = .ok (.iinc 2 1, 3) := by decide +kernel
theorem dX0_lowestAwake_45 : decode cX0_lowestAwake 45 = .ok (.goto (-41), 3) := by decide +kernel
theorem dX0_lowestAwake_48 : decode cX0_lowestAwake 48 = .ok (.iload_n 1, 1) := by decide +kernel
theorem dX0_lowestAwake_49 : decode cX0_lowestAwake 49 = .ok (.ireturn, 1) := by decide +kernel
theorem dX0_formulaOf_0 : decode cX0_formulaOf 0 = .ok (.aload_n 0, 1) := by decide +kernel
theorem dX0_formulaOf_1 : decode cX0_formulaOf 1 = .ok (.getfield 13, 3) := by decide +kernel
theorem dX0_formulaOf_4 : decode cX0_formulaOf 4 = .ok (.aload_n 0, 1) := by decide +kernel
theorem dX0_formulaOf_5 : decode cX0_formulaOf 5 = .ok (.getfield 19, 3) := by decide +kernel
theorem dX0_formulaOf_8 : decode cX0_formulaOf 8 = .ok (.iload_n 1, 1) := by decide +kernel
theorem dX0_formulaOf_9 : decode cX0_formulaOf 9 = .ok (.baload, 1) := by decide +kernel
theorem dX0_formulaOf_10 : decode cX0_formulaOf 10 = .ok (.baload, 1) := by decide +kernel
theorem dX0_formulaOf_11 : decode cX0_formulaOf 11 = .ok (.istore_n 2, 1) := by decide +kernel
theorem dX0_formulaOf_12 : decode cX0_formulaOf 12 = .ok (.aload_n 0, 1) := by decide +kernel
theorem dX0_formulaOf_13 : decode cX0_formulaOf 13 = .ok (.getfield 13, 3) := by decide +kernel
theorem dX0_formulaOf_16 : decode cX0_formulaOf 16 = .ok (.aload_n 0, 1) := by decide +kernel
theorem dX0_formulaOf_17 : decode cX0_formulaOf 17 = .ok (.getfield 22, 3) := by decide +kernel
theorem dX0_formulaOf_20 : decode cX0_formulaOf 20 = .ok (.iload_n 1, 1) := by decide +kernel
theorem dX0_formulaOf_21 : decode cX0_formulaOf 21 = .ok (.baload, 1) := by decide +kernel
theorem dX0_formulaOf_22 : decode cX0_formulaOf 22 = .ok (.baload, 1) := by decide +kernel
theorem dX0_formulaOf_23 : decode cX0_formulaOf 23 = .ok (.istore_n 3, 1) := by decide +kernel
theorem dX0_formulaOf_24 : decode cX0_formulaOf 24 = .ok (.aload_n 0, 1) := by decide +kernel
theorem dX0_formulaOf_25 : decode cX0_formulaOf 25 = .ok (.getfield 16, 3) := by decide +kernel
theorem dX0_formulaOf_28 : decode cX0_formulaOf 28 = .ok (.iload_n 1, 1) := by decide +kernel
theorem dX0_formulaOf_29 : decode cX0_formulaOf 29 = .ok (.baload, 1) := by decide +kernel
theorem dX0_formulaOf_30 : decode cX0_formulaOf 30 = .ok (.istore 4, 2) := by decide +kernel
theorem dX0_formulaOf_32 : decode cX0_formulaOf 32 = .ok (.iload 4, 2) := by decide +kernel
theorem dX0_formulaOf_34 : decode cX0_formulaOf 34 = .ok (.ifCond .ne 7, 3) := by decide +kernel
theorem dX0_formulaOf_37 : decode cX0_formulaOf 37 = .ok (.iload_n 2, 1) := by decide +kernel
theorem dX0_formulaOf_38 : decode cX0_formulaOf 38 = .ok (.iload_n 3, 1) := by decide +kernel
theorem dX0_formulaOf_39 : decode cX0_formulaOf 39 = .ok (.iand, 1) := by decide +kernel
theorem dX0_formulaOf_40 : decode cX0_formulaOf 40 = .ok (.ireturn, 1) := by decide +kernel
theorem dX0_formulaOf_41 : decode cX0_formulaOf 41 = .ok (.iload 4, 2) := by decide +kernel
theorem dX0_formulaOf_43 : decode cX0_formulaOf 43 = .ok (.iconst 1, 1) := by decide +kernel
theorem dX0_formulaOf_44 : decode cX0_formulaOf 44 = .ok (.if_icmp .ne 7, 3) := by decide +kernel
theorem dX0_formulaOf_47 : decode cX0_formulaOf 47 = .ok (.iload_n 2, 1) := by decide +kernel
theorem dX0_formulaOf_48 : decode cX0_formulaOf 48 = .ok (.iload_n 3, 1) := by decide +kernel
theorem dX0_formulaOf_49 : decode cX0_formulaOf 49 = .ok (.ior, 1) := by decide +kernel
theorem dX0_formulaOf_50 : decode cX0_formulaOf 50 = .ok (.ireturn, 1) := by decide +kernel
theorem dX0_formulaOf_51 : decode cX0_formulaOf 51 = .ok (.iload 4, 2) := by decide +kernel
theorem dX0_formulaOf_53 : decode cX0_formulaOf 53 = .ok (.iconst 2, 1) := by decide +kernel
theorem dX0_formulaOf_54 : decode cX0_formulaOf 54 = .ok (.if_icmp .ne 7, 3) := by decide +kernel
theorem dX0_formulaOf_57 : decode cX0_formulaOf 57 = .ok (.iload_n 2, 1) := by decide +kernel
theorem dX0_formulaOf_58 : decode cX0_formulaOf 58 = .ok (.iload_n 3, 1) := by decide +kernel
theorem dX0_formulaOf_59 : decode cX0_formulaOf 59 = .ok (.ixor, 1) := by decide +kernel
theorem dX0_formulaOf_60 : decode cX0_formulaOf 60 = .ok (.ireturn, 1) := by decide +kernel
theorem dX0_formulaOf_61 : decode cX0_formulaOf 61 = .ok (.iload 4, 2) := by decide +kernel
theorem dX0_formulaOf_63 : decode cX0_formulaOf 63 = .ok (.iconst 3, 1) := by decide +kernel
theorem dX0_formulaOf_64 : decode cX0_formulaOf 64 = .ok (.if_icmp .ne 10, 3) := by decide +kernel
theorem dX0_formulaOf_67 : decode cX0_formulaOf 67 = .ok (.iload_n 2, 1) := by decide +kernel
theorem dX0_formulaOf_68 : decode cX0_formulaOf 68 = .ok (.iload_n 3, 1) := by decide +kernel
theorem dX0_formulaOf_69 : decode cX0_formulaOf 69 = .ok (.iadd, 1) := by decide +kernel
theorem dX0_formulaOf_70 : decode cX0_formulaOf 70 = .ok (.bipush 15, 2) := by decide +kernel
theorem dX0_formulaOf_72 : decode cX0_formulaOf 72 = .ok (.iand, 1) := by decide +kernel
theorem dX0_formulaOf_73 : decode cX0_formulaOf 73 = .ok (.ireturn, 1) := by decide +kernel
theorem dX0_formulaOf_74 : decode cX0_formulaOf 74 = .ok (.iload 4, 2) := by decide +kernel
theorem dX0_formulaOf_76 : decode cX0_formulaOf 76 = .ok (.iconst 4, 1) := by decide +kernel
theorem dX0_formulaOf_77 : decode cX0_formulaOf 77 = .ok (.if_icmp .ne 10, 3) := by decide +kernel
theorem dX0_formulaOf_80 : decode cX0_formulaOf 80 = .ok (.iload_n 2, 1) := by decide +kernel
theorem dX0_formulaOf_81 : decode cX0_formulaOf 81 = .ok (.iload_n 3, 1) := by decide +kernel
theorem dX0_formulaOf_82 : decode cX0_formulaOf 82 = .ok (.isub, 1) := by decide +kernel
theorem dX0_formulaOf_83 : decode cX0_formulaOf 83 = .ok (.bipush 15, 2) := by decide +kernel
theorem dX0_formulaOf_85 : decode cX0_formulaOf 85 = .ok (.iand, 1) := by decide +kernel
theorem dX0_formulaOf_86 : decode cX0_formulaOf 86 = .ok (.ireturn, 1) := by decide +kernel
theorem dX0_formulaOf_87 : decode cX0_formulaOf 87 = .ok (.iload 4, 2) := by decide +kernel
theorem dX0_formulaOf_89 : decode cX0_formulaOf 89 = .ok (.iconst 5, 1) := by decide +kernel
theorem dX0_formulaOf_90 : decode cX0_formulaOf 90 = .ok (.if_icmp .ne 14, 3) := by decide +kernel
theorem dX0_formulaOf_93 : decode cX0_formulaOf 93 = .ok (.iload_n 2, 1) := by decide +kernel
theorem dX0_formulaOf_94 : decode cX0_formulaOf 94 = .ok (.iload_n 3, 1) := by decide +kernel
theorem dX0_formulaOf_95 : decode cX0_formulaOf 95 = .ok (.if_icmp .ge 7, 3) := by decide +kernel
theorem dX0_formulaOf_98 : decode cX0_formulaOf 98 = .ok (.iconst 1, 1) := by decide +kernel
theorem dX0_formulaOf_99 : decode cX0_formulaOf 99 = .ok (.goto 4, 3) := by decide +kernel
theorem dX0_formulaOf_102 : decode cX0_formulaOf 102 = .ok (.iconst 0, 1) := by decide +kernel
theorem dX0_formulaOf_103 : decode cX0_formulaOf 103 = .ok (.ireturn, 1) := by decide +kernel
theorem dX0_formulaOf_104 : decode cX0_formulaOf 104 = .ok (.iload 4, 2) := by decide +kernel
theorem dX0_formulaOf_106 : decode cX0_formulaOf 106 = .ok (.bipush 6, 2) := by decide +kernel
theorem dX0_formulaOf_108 : decode cX0_formulaOf 108 = .ok (.if_icmp .ne 5, 3) := by decide +kernel
theorem dX0_formulaOf_111 : decode cX0_formulaOf 111 = .ok (.iload_n 2, 1) := by decide +kernel
theorem dX0_formulaOf_112 : decode cX0_formulaOf 112 = .ok (.ireturn, 1) := by decide +kernel
theorem dX0_formulaOf_113 : decode cX0_formulaOf 113 = .ok (.iload 4, 2) := by decide +kernel
theorem dX0_formulaOf_115 : decode cX0_formulaOf 115 = .ok (.bipush 7, 2) := by decide +kernel
theorem dX0_formulaOf_117 : decode cX0_formulaOf 117 = .ok (.if_icmp .ne 8, 3) := by decide +kernel
theorem dX0_formulaOf_120 : decode cX0_formulaOf 120 = .ok (.bipush 15, 2) := by decide +kernel
theorem dX0_formulaOf_122 : decode cX0_formulaOf 122 = .ok (.iload_n 2, 1) := by decide +kernel
theorem dX0_formulaOf_123 : decode cX0_formulaOf 123 = .ok (.isub, 1) := by decide +kernel
theorem dX0_formulaOf_124 : decode cX0_formulaOf 124 = .ok (.ireturn, 1) := by decide +kernel
theorem dX0_formulaOf_125 : decode cX0_formulaOf 125 = .ok (.iload_n 2, 1) := by decide +kernel
theorem dX0_formulaOf_126 : decode cX0_formulaOf 126 = .ok (.ifCond .ne 7, 3) := by decide +kernel
theorem dX0_formulaOf_129 : decode cX0_formulaOf 129 = .ok (.iload_n 3, 1) := by decide +kernel
theorem dX0_formulaOf_130 : decode cX0_formulaOf 130 = .ok (.goto 7, 3) := by decide +kernel
theorem dX0_formulaOf_133 : decode cX0_formulaOf 133 = .ok (.bipush 15, 2) := by decide +kernel
theorem dX0_formulaOf_135 : decode cX0_formulaOf 135 = .ok (.iload_n 3, 1) := by decide +kernel
theorem dX0_formulaOf_136 : decode cX0_formulaOf 136 = .ok (.isub, 1) := by decide +kernel
theorem dX0_formulaOf_137 : decode cX0_formulaOf 137 = .ok (.ireturn, 1) := by decide +kernel
theorem dX0_put_0 : decode cX0_put 0 = .ok (.aload_n 0, 1) := by decide +kernel
theorem dX0_put_1 : decode cX0_put 1 = .ok (.getfield 13, 3) := by decide +kernel
theorem dX0_put_4 : decode cX0_put 4 = .ok (.iload_n 1, 1) := by decide +kernel
theorem dX0_put_5 : decode cX0_put 5 = .ok (.baload, 1) := by decide +kernel
theorem dX0_put_6 : decode cX0_put 6 = .ok (.iload_n 2, 1) := by decide +kernel
theorem dX0_put_7 : decode cX0_put 7 = .ok (.if_icmp .ne 4, 3) := by decide +kernel
theorem dX0_put_10 : decode cX0_put 10 = .ok (.return_, 1) := by decide +kernel
theorem dX0_put_11 : decode cX0_put 11 = .ok (.aload_n 0, 1) := by decide +kernel
theorem dX0_put_12 : decode cX0_put 12 = .ok (.getfield 13, 3) := by decide +kernel
theorem dX0_put_15 : decode cX0_put 15 = .ok (.iload_n 1, 1) := by decide +kernel
theorem dX0_put_16 : decode cX0_put 16 = .ok (.iload_n 2, 1) := by decide +kernel
theorem dX0_put_17 : decode cX0_put 17 = .ok (.i2b, 1) := by decide +kernel
theorem dX0_put_18 : decode cX0_put 18 = .ok (.bastore, 1) := by decide +kernel
theorem dX0_put_19 : decode cX0_put 19 = .ok (.aload_n 0, 1) := by decide +kernel
theorem dX0_put_20 : decode cX0_put 20 = .ok (.dup, 1) := by decide +kernel
theorem dX0_put_21 : decode cX0_put 21 = .ok (.getfield 60, 3) := by decide +kernel
theorem dX0_put_24 : decode cX0_put 24 = .ok (.aload_n 0, 1) := by decide +kernel
theorem dX0_put_25 : decode cX0_put 25 = .ok (.getfield 28, 3) := by decide +kernel
theorem dX0_put_28 : decode cX0_put 28 = .ok (.iload_n 1, 1) := by decide +kernel
theorem dX0_put_29 : decode cX0_put 29 = .ok (.iaload, 1) := by decide +kernel
theorem dX0_put_30 : decode cX0_put 30 = .ok (.ior, 1) := by decide +kernel
theorem dX0_put_31 : decode cX0_put 31 = .ok (.putfield 60, 3) := by decide +kernel
theorem dX0_put_34 : decode cX0_put 34 = .ok (.return_, 1) := by decide +kernel
theorem dX0_register_0 : decode cX0_register 0 = .ok (.iload_n 2, 1) := by decide +kernel
theorem dX0_register_1 : decode cX0_register 1 = .ok (.ifCond .lt 38, 3) := by decide +kernel
theorem dX0_register_4 : decode cX0_register 4 = .ok (.iload_n 2, 1) := by decide +kernel
theorem dX0_register_5 : decode cX0_register 5 = .ok (.bipush 8, 2) := by decide +kernel
theorem dX0_register_7 : decode cX0_register 7 = .ok (.if_icmp .gt 32, 3) := by decide +kernel
theorem dX0_register_10 : decode cX0_register 10 = .ok (.aload_n 0, 1) := by decide +kernel
theorem dX0_register_11 : decode cX0_register 11 = .ok (.iload_n 1, 1) := by decide +kernel
theorem dX0_register_12 : decode cX0_register 12 = .ok (.invokevirtual 38, 3) := by decide +kernel
theorem dX0_register_15 : decode cX0_register 15 = .ok (.ifCond .eq 24, 3) := by decide +kernel
theorem dX0_register_18 : decode cX0_register 18 = .ok (.aload_n 0, 1) := by decide +kernel
theorem dX0_register_19 : decode cX0_register 19 = .ok (.iload_n 3, 1) := by decide +kernel
theorem dX0_register_20 : decode cX0_register 20 = .ok (.invokevirtual 38, 3) := by decide +kernel
theorem dX0_register_23 : decode cX0_register 23 = .ok (.ifCond .eq 16, 3) := by decide +kernel
theorem dX0_register_26 : decode cX0_register 26 = .ok (.iload 4, 2) := by decide +kernel
theorem dX0_register_28 : decode cX0_register 28 = .ok (.ifCond .lt 11, 3) := by decide +kernel
theorem dX0_register_31 : decode cX0_register 31 = .ok (.iload 4, 2) := by decide +kernel
theorem dX0_register_33 : decode cX0_register 33 = .ok (.sipush 143, 3) := by decide +kernel
theorem dX0_register_36 : decode cX0_register 36 = .ok (.if_icmp .le 5, 3) := by decide +kernel
theorem dX0_register_39 : decode cX0_register 39 = .ok (.iconst (-1), 1) := by decide +kernel
theorem dX0_register_40 : decode cX0_register 40 = .ok (.ireturn, 1) := by decide +kernel
theorem dX0_register_41 : decode cX0_register 41 = .ok (.iload 4, 2) := by decide +kernel
theorem dX0_register_43 : decode cX0_register 43 = .ok (.bipush 12, 2) := by decide +kernel
theorem dX0_register_45 : decode cX0_register 45 = .ok (.idiv, 1) := by decide +kernel
theorem dX0_register_46 : decode cX0_register 46 = .ok (.istore 5, 2) := by decide +kernel
theorem dX0_register_48 : decode cX0_register 48 = .ok (.aload_n 0, 1) := by decide +kernel
theorem dX0_register_49 : decode cX0_register 49 = .ok (.getfield 7, 3) := by decide +kernel
theorem dX0_register_52 : decode cX0_register 52 = .ok (.iload 5, 2) := by decide +kernel
theorem dX0_register_54 : decode cX0_register 54 = .ok (.baload, 1) := by decide +kernel
theorem dX0_register_55 : decode cX0_register 55 = .ok (.ifCond .ne 17, 3) := by decide +kernel
theorem dX0_register_58 : decode cX0_register 58 = .ok (.iload 5, 2) := by decide +kernel
theorem dX0_register_60 : decode cX0_register 60 = .ok (.iload_n 1, 1) := by decide +kernel
theorem dX0_register_61 : decode cX0_register 61 = .ok (.if_icmp .eq 11, 3) := by decide +kernel
theorem dX0_register_64 : decode cX0_register 64 = .ok (.aload_n 0, 1) := by decide +kernel
theorem dX0_register_65 : decode cX0_register 65 = .ok (.iload_n 1, 1) := by decide +kernel
theorem dX0_register_66 : decode cX0_register 66 = .ok (.invokevirtual 42, 3) := by decide +kernel
theorem dX0_register_69 : decode cX0_register 69 = .ok (.ifCond .eq 6, 3) := by decide +kernel
theorem dX0_register_72 : decode cX0_register 72 = .ok (.bipush (-3), 2) := by decide +kernel
theorem dX0_register_74 : decode cX0_register 74 = .ok (.ireturn, 1) := by decide +kernel
theorem dX0_register_75 : decode cX0_register 75 = .ok (.aload_n 0, 1) := by decide +kernel
theorem dX0_register_76 : decode cX0_register 76 = .ok (.getfield 25, 3) := by decide +kernel
theorem dX0_register_79 : decode cX0_register 79 = .ok (.iload_n 1, 1) := by decide +kernel
theorem dX0_register_80 : decode cX0_register 80 = .ok (.iload 5, 2) := by decide +kernel
theorem dX0_register_82 : decode cX0_register 82 = .ok (.i2b, 1) := by decide +kernel
theorem dX0_register_83 : decode cX0_register 83 = .ok (.bastore, 1) := by decide +kernel
theorem dX0_register_84 : decode cX0_register 84 = .ok (.aload_n 0, 1) := by decide +kernel
theorem dX0_register_85 : decode cX0_register 85 = .ok (.iload_n 1, 1) := by decide +kernel
theorem dX0_register_86 : decode cX0_register 86 = .ok (.iconst 2, 1) := by decide +kernel
theorem dX0_register_87 : decode cX0_register 87 = .ok (.iload_n 2, 1) := by decide +kernel
theorem dX0_register_88 : decode cX0_register 88 = .ok (.iload_n 3, 1) := by decide +kernel
theorem dX0_register_89 : decode cX0_register 89 = .ok (.iload 4, 2) := by decide +kernel
theorem dX0_register_91 : decode cX0_register 91 = .ok (.bipush 12, 2) := by decide +kernel
theorem dX0_register_93 : decode cX0_register 93 = .ok (.irem, 1) := by decide +kernel
theorem dX0_register_94 : decode cX0_register 94 = .ok (.invokevirtual 49, 3) := by decide +kernel
theorem dX0_register_97 : decode cX0_register 97 = .ok (.aload_n 0, 1) := by decide +kernel
theorem dX0_register_98 : decode cX0_register 98 = .ok (.getfield 13, 3) := by decide +kernel
theorem dX0_register_101 : decode cX0_register 101 = .ok (.iload_n 1, 1) := by decide +kernel
theorem dX0_register_102 : decode cX0_register 102 = .ok (.baload, 1) := by decide +kernel
theorem dX0_register_103 : decode cX0_register 103 = .ok (.ireturn, 1) := by decide +kernel
theorem dX0_free_0 : decode cX0_free 0 = .ok (.aload_n 0, 1) := by decide +kernel
theorem dX0_free_1 : decode cX0_free 1 = .ok (.iload_n 1, 1) := by decide +kernel
theorem dX0_free_2 : decode cX0_free 2 = .ok (.invokevirtual 38, 3) := by decide +kernel
theorem dX0_free_5 : decode cX0_free 5 = .ok (.ifCond .ne 5, 3) := by decide +kernel
theorem dX0_free_8 : decode cX0_free 8 = .ok (.iconst (-1), 1) := by decide +kernel
theorem dX0_free_9 : decode cX0_free 9 = .ok (.ireturn, 1) := by decide +kernel
theorem dX0_free_10 : decode cX0_free 10 = .ok (.aload_n 0, 1) := by decide +kernel
theorem dX0_free_11 : decode cX0_free 11 = .ok (.iload_n 1, 1) := by decide +kernel
theorem dX0_free_12 : decode cX0_free 12 = .ok (.iconst 0, 1) := by decide +kernel
theorem dX0_free_13 : decode cX0_free 13 = .ok (.iconst 0, 1) := by decide +kernel
theorem dX0_free_14 : decode cX0_free 14 = .ok (.iload_n 1, 1) := by decide +kernel
theorem dX0_free_15 : decode cX0_free 15 = .ok (.iload_n 1, 1) := by decide +kernel
theorem dX0_free_16 : decode cX0_free 16 = .ok (.invokevirtual 49, 3) := by decide +kernel
theorem dX0_free_19 : decode cX0_free 19 = .ok (.aload_n 0, 1) := by decide +kernel
theorem dX0_free_20 : decode cX0_free 20 = .ok (.getfield 13, 3) := by decide +kernel
theorem dX0_free_23 : decode cX0_free 23 = .ok (.iload_n 1, 1) := by decide +kernel
theorem dX0_free_24 : decode cX0_free 24 = .ok (.baload, 1) := by decide +kernel
theorem dX0_free_25 : decode cX0_free 25 = .ok (.ireturn, 1) := by decide +kernel
theorem dX0_set_0 : decode cX0_set 0 = .ok (.aload_n 0, 1) := by decide +kernel
theorem dX0_set_1 : decode cX0_set 1 = .ok (.iload_n 1, 1) := by decide +kernel
theorem dX0_set_2 : decode cX0_set 2 = .ok (.invokevirtual 38, 3) := by decide +kernel
theorem dX0_set_5 : decode cX0_set 5 = .ok (.ifCond .eq 13, 3) := by decide +kernel
theorem dX0_set_8 : decode cX0_set 8 = .ok (.iload_n 2, 1) := by decide +kernel
end
section
/-! decode rows -/
set_option maxRecDepth 100000
theorem dX0_set_9 : decode cX0_set 9 = .ok (.ifCond .lt 9, 3) := by decide +kernel
theorem dX0_set_12 : decode cX0_set 12 = .ok (.iload_n 2, 1) := by decide +kernel
theorem dX0_set_13 : decode cX0_set 13 = .ok (.bipush 15, 2) := by decide +kernel
theorem dX0_set_15 : decode cX0_set 15 = .ok (.if_icmp .le 5, 3) := by decide +kernel
theorem dX0_set_18 : decode cX0_set 18 = .ok (.iconst (-1), 1) := by decide +kernel
theorem dX0_set_19 : decode cX0_set 19 = .ok (.ireturn, 1) := by decide +kernel
theorem dX0_set_20 : decode cX0_set 20 = .ok (.aload_n 0, 1) := by decide +kernel
theorem dX0_set_21 : decode cX0_set 21 = .ok (.getfield 7, 3) := by decide +kernel
theorem dX0_set_24 : decode cX0_set 24 = .ok (.iload_n 1, 1) := by decide +kernel
theorem dX0_set_25 : decode cX0_set 25 = .ok (.baload, 1) := by decide +kernel
theorem dX0_set_26 : decode cX0_set 26 = .ok (.ifCond .eq 6, 3) := by decide +kernel
theorem dX0_set_29 : decode cX0_set 29 = .ok (.bipush (-3), 2) := by decide +kernel
theorem dX0_set_31 : decode cX0_set 31 = .ok (.ireturn, 1) := by decide +kernel
theorem dX0_set_32 : decode cX0_set 32 = .ok (.aload_n 0, 1) := by decide +kernel
theorem dX0_set_33 : decode cX0_set 33 = .ok (.iload_n 1, 1) := by decide +kernel
theorem dX0_set_34 : decode cX0_set 34 = .ok (.iload_n 2, 1) := by decide +kernel
theorem dX0_set_35 : decode cX0_set 35 = .ok (.invokevirtual 68, 3) := by decide +kernel
theorem dX0_set_38 : decode cX0_set 38 = .ok (.ireturn, 1) := by decide +kernel
theorem dX0_change_0 : decode cX0_change 0 = .ok (.aload_n 0, 1) := by decide +kernel
theorem dX0_change_1 : decode cX0_change 1 = .ok (.iconst 0, 1) := by decide +kernel
theorem dX0_change_2 : decode cX0_change 2 = .ok (.putfield 75, 3) := by decide +kernel
theorem dX0_change_5 : decode cX0_change 5 = .ok (.aload_n 0, 1) := by decide +kernel
theorem dX0_change_6 : decode cX0_change 6 = .ok (.getfield 13, 3) := by decide +kernel
theorem dX0_change_9 : decode cX0_change 9 = .ok (.iload_n 1, 1) := by decide +kernel
theorem dX0_change_10 : decode cX0_change 10 = .ok (.baload, 1) := by decide +kernel
theorem dX0_change_11 : decode cX0_change 11 = .ok (.iconst 1, 1) := by decide +kernel
theorem dX0_change_12 : decode cX0_change 12 = .ok (.iand, 1) := by decide +kernel
theorem dX0_change_13 : decode cX0_change 13 = .ok (.ifCond .ne 15, 3) := by decide +kernel
theorem dX0_change_16 : decode cX0_change 16 = .ok (.iload_n 2, 1) := by decide +kernel
theorem dX0_change_17 : decode cX0_change 17 = .ok (.iconst 1, 1) := by decide +kernel
theorem dX0_change_18 : decode cX0_change 18 = .ok (.iand, 1) := by decide +kernel
theorem dX0_change_19 : decode cX0_change 19 = .ok (.iconst 1, 1) := by decide +kernel
theorem dX0_change_20 : decode cX0_change 20 = .ok (.if_icmp .ne 8, 3) := by decide +kernel
theorem dX0_change_23 : decode cX0_change 23 = .ok (.aload_n 0, 1) := by decide +kernel
theorem dX0_change_24 : decode cX0_change 24 = .ok (.iload_n 1, 1) := by decide +kernel
theorem dX0_change_25 : decode cX0_change 25 = .ok (.invokevirtual 78, 3) := by decide +kernel
theorem dX0_change_28 : decode cX0_change 28 = .ok (.iconst 0, 1) := by decide +kernel
theorem dX0_change_29 : decode cX0_change 29 = .ok (.istore_n 3, 1) := by decide +kernel
theorem dX0_change_30 : decode cX0_change 30 = .ok (.aload_n 0, 1) := by decide +kernel
theorem dX0_change_31 : decode cX0_change 31 = .ok (.getfield 13, 3) := by decide +kernel
theorem dX0_change_34 : decode cX0_change 34 = .ok (.iload_n 1, 1) := by decide +kernel
theorem dX0_change_35 : decode cX0_change 35 = .ok (.baload, 1) := by decide +kernel
theorem dX0_change_36 : decode cX0_change 36 = .ok (.iload_n 2, 1) := by decide +kernel
theorem dX0_change_37 : decode cX0_change 37 = .ok (.if_icmp .eq 5, 3) := by decide +kernel
theorem dX0_change_40 : decode cX0_change 40 = .ok (.iconst 1, 1) := by decide +kernel
theorem dX0_change_41 : decode cX0_change 41 = .ok (.istore_n 3, 1) := by decide +kernel
theorem dX0_change_42 : decode cX0_change 42 = .ok (.aload_n 0, 1) := by decide +kernel
theorem dX0_change_43 : decode cX0_change 43 = .ok (.iload_n 1, 1) := by decide +kernel
theorem dX0_change_44 : decode cX0_change 44 = .ok (.iload_n 2, 1) := by decide +kernel
theorem dX0_change_45 : decode cX0_change 45 = .ok (.invokevirtual 82, 3) := by decide +kernel
theorem dX0_change_48 : decode cX0_change 48 = .ok (.iconst 0, 1) := by decide +kernel
theorem dX0_change_49 : decode cX0_change 49 = .ok (.istore 4, 2) := by decide +kernel
theorem dX0_change_51 : decode cX0_change 51 = .ok (.iload 4, 2) := by decide +kernel
theorem dX0_change_53 : decode cX0_change 53 = .ok (.bipush 12, 2) := by decide +kernel
theorem dX0_change_55 : decode cX0_change 55 = .ok (.if_icmp .ge 40, 3) := by decide +kernel
theorem dX0_change_58 : decode cX0_change 58 = .ok (.aload_n 0, 1) := by decide +kernel
theorem dX0_change_59 : decode cX0_change 59 = .ok (.getfield 75, 3) := by decide +kernel
theorem dX0_change_62 : decode cX0_change 62 = .ok (.iload 4, 2) := by decide +kernel
theorem dX0_change_64 : decode cX0_change 64 = .ok (.ishr, 1) := by decide +kernel
theorem dX0_change_65 : decode cX0_change 65 = .ok (.iconst 1, 1) := by decide +kernel
theorem dX0_change_66 : decode cX0_change 66 = .ok (.iand, 1) := by decide +kernel
theorem dX0_change_67 : decode cX0_change 67 = .ok (.ifCond .ne 6, 3) := by decide +kernel
theorem dX0_change_70 : decode cX0_change 70 = .ok (.goto 19, 3) := by decide +kernel
theorem dX0_change_73 : decode cX0_change 73 = .ok (.aload_n 0, 1) := by decide +kernel
theorem dX0_change_74 : decode cX0_change 74 = .ok (.iload 4, 2) := by decide +kernel
theorem dX0_change_76 : decode cX0_change 76 = .ok (.aload_n 0, 1) := by decide +kernel
theorem dX0_change_77 : decode cX0_change 77 = .ok (.getfield 35, 3) := by decide +kernel
theorem dX0_change_80 : decode cX0_change 80 = .ok (.iload 4, 2) := by decide +kernel
theorem dX0_change_82 : decode cX0_change 82 = .ok (.baload, 1) := by decide +kernel
theorem dX0_change_83 : decode cX0_change 83 = .ok (.invokevirtual 82, 3) := by decide +kernel
theorem dX0_change_86 : decode cX0_change 86 = .ok (.iinc 3 1, 3) := by decide +kernel
theorem dX0_change_89 : decode cX0_change 89 = .ok (.iinc 4 1, 3) := by decide +kernel
theorem dX0_change_92 : decode cX0_change 92 = .ok (.goto (-41), 3) := by decide +kernel
theorem dX0_change_95 : decode cX0_change 95 = .ok (.iload_n 3, 1) := by decide +kernel
theorem dX0_change_96 : decode cX0_change 96 = .ok (.aload_n 0, 1) := by decide +kernel
theorem dX0_change_97 : decode cX0_change 97 = .ok (.invokevirtual 64, 3) := by decide +kernel
theorem dX0_change_100 : decode cX0_change 100 = .ok (.iadd, 1) := by decide +kernel
theorem dX0_change_101 : decode cX0_change 101 = .ok (.ireturn, 1) := by decide +kernel
theorem dX0_sample_0 : decode cX0_sample 0 = .ok (.iconst 0, 1) := by decide +kernel
theorem dX0_sample_1 : decode cX0_sample 1 = .ok (.istore_n 2, 1) := by decide +kernel
theorem dX0_sample_2 : decode cX0_sample 2 = .ok (.iload_n 2, 1) := by decide +kernel
theorem dX0_sample_3 : decode cX0_sample 3 = .ok (.bipush 12, 2) := by decide +kernel
theorem dX0_sample_5 : decode cX0_sample 5 = .ok (.if_icmp .ge 68, 3) := by decide +kernel
theorem dX0_sample_8 : decode cX0_sample 8 = .ok (.aload_n 0, 1) := by decide +kernel
theorem dX0_sample_9 : decode cX0_sample 9 = .ok (.getfield 7, 3) := by decide +kernel
theorem dX0_sample_12 : decode cX0_sample 12 = .ok (.iload_n 2, 1) := by decide +kernel
theorem dX0_sample_13 : decode cX0_sample 13 = .ok (.baload, 1) := by decide +kernel
theorem dX0_sample_14 : decode cX0_sample 14 = .ok (.iconst 2, 1) := by decide +kernel
theorem dX0_sample_15 : decode cX0_sample 15 = .ok (.if_icmp .ne 52, 3) := by decide +kernel
theorem dX0_sample_18 : decode cX0_sample 18 = .ok (.aload_n 0, 1) := by decide +kernel
theorem dX0_sample_19 : decode cX0_sample 19 = .ok (.getfield 25, 3) := by decide +kernel
theorem dX0_sample_22 : decode cX0_sample 22 = .ok (.iload_n 2, 1) := by decide +kernel
theorem dX0_sample_23 : decode cX0_sample 23 = .ok (.baload, 1) := by decide +kernel
theorem dX0_sample_24 : decode cX0_sample 24 = .ok (.iload_n 1, 1) := by decide +kernel
theorem dX0_sample_25 : decode cX0_sample 25 = .ok (.if_icmp .eq 6, 3) := by decide +kernel
theorem dX0_sample_28 : decode cX0_sample 28 = .ok (.goto 39, 3) := by decide +kernel
theorem dX0_sample_31 : decode cX0_sample 31 = .ok (.aload_n 0, 1) := by decide +kernel
theorem dX0_sample_32 : decode cX0_sample 32 = .ok (.iload_n 2, 1) := by decide +kernel
theorem dX0_sample_33 : decode cX0_sample 33 = .ok (.invokevirtual 86, 3) := by decide +kernel
theorem dX0_sample_36 : decode cX0_sample 36 = .ok (.istore_n 3, 1) := by decide +kernel
theorem dX0_sample_37 : decode cX0_sample 37 = .ok (.aload_n 0, 1) := by decide +kernel
theorem dX0_sample_38 : decode cX0_sample 38 = .ok (.getfield 35, 3) := by decide +kernel
theorem dX0_sample_41 : decode cX0_sample 41 = .ok (.iload_n 2, 1) := by decide +kernel
theorem dX0_sample_42 : decode cX0_sample 42 = .ok (.iload_n 3, 1) := by decide +kernel
theorem dX0_sample_43 : decode cX0_sample 43 = .ok (.i2b, 1) := by decide +kernel
theorem dX0_sample_44 : decode cX0_sample 44 = .ok (.bastore, 1) := by decide +kernel
theorem dX0_sample_45 : decode cX0_sample 45 = .ok (.iload_n 3, 1) := by decide +kernel
theorem dX0_sample_46 : decode cX0_sample 46 = .ok (.aload_n 0, 1) := by decide +kernel
theorem dX0_sample_47 : decode cX0_sample 47 = .ok (.getfield 13, 3) := by decide +kernel
theorem dX0_sample_50 : decode cX0_sample 50 = .ok (.iload_n 2, 1) := by decide +kernel
theorem dX0_sample_51 : decode cX0_sample 51 = .ok (.baload, 1) := by decide +kernel
theorem dX0_sample_52 : decode cX0_sample 52 = .ok (.if_icmp .eq 15, 3) := by decide +kernel
theorem dX0_sample_55 : decode cX0_sample 55 = .ok (.aload_n 0, 1) := by decide +kernel
theorem dX0_sample_56 : decode cX0_sample 56 = .ok (.dup, 1) := by decide +kernel
theorem dX0_sample_57 : decode cX0_sample 57 = .ok (.getfield 75, 3) := by decide +kernel
theorem dX0_sample_60 : decode cX0_sample 60 = .ok (.iconst 1, 1) := by decide +kernel
theorem dX0_sample_61 : decode cX0_sample 61 = .ok (.iload_n 2, 1) := by decide +kernel
theorem dX0_sample_62 : decode cX0_sample 62 = .ok (.ishl, 1) := by decide +kernel
theorem dX0_sample_63 : decode cX0_sample 63 = .ok (.ior, 1) := by decide +kernel
theorem dX0_sample_64 : decode cX0_sample 64 = .ok (.putfield 75, 3) := by decide +kernel
theorem dX0_sample_67 : decode cX0_sample 67 = .ok (.iinc 2 1, 3) := by decide +kernel
theorem dX0_sample_70 : decode cX0_sample 70 = .ok (.goto (-68), 3) := by decide +kernel
theorem dX0_sample_73 : decode cX0_sample 73 = .ok (.return_, 1) := by decide +kernel
theorem dX0_pulse_0 : decode cX0_pulse 0 = .ok (.aload_n 0, 1) := by decide +kernel
theorem dX0_pulse_1 : decode cX0_pulse 1 = .ok (.iload_n 1, 1) := by decide +kernel
theorem dX0_pulse_2 : decode cX0_pulse 2 = .ok (.invokevirtual 38, 3) := by decide +kernel
theorem dX0_pulse_5 : decode cX0_pulse 5 = .ok (.ifCond .eq 13, 3) := by decide +kernel
theorem dX0_pulse_8 : decode cX0_pulse 8 = .ok (.iload_n 2, 1) := by decide +kernel
theorem dX0_pulse_9 : decode cX0_pulse 9 = .ok (.ifCond .lt 9, 3) := by decide +kernel
theorem dX0_pulse_12 : decode cX0_pulse 12 = .ok (.iload_n 2, 1) := by decide +kernel
theorem dX0_pulse_13 : decode cX0_pulse 13 = .ok (.bipush 15, 2) := by decide +kernel
theorem dX0_pulse_15 : decode cX0_pulse 15 = .ok (.if_icmp .le 5, 3) := by decide +kernel
theorem dX0_pulse_18 : decode cX0_pulse 18 = .ok (.iconst (-1), 1) := by decide +kernel
theorem dX0_pulse_19 : decode cX0_pulse 19 = .ok (.ireturn, 1) := by decide +kernel
theorem dX0_pulse_20 : decode cX0_pulse 20 = .ok (.aload_n 0, 1) := by decide +kernel
theorem dX0_pulse_21 : decode cX0_pulse 21 = .ok (.getfield 7, 3) := by decide +kernel
theorem dX0_pulse_24 : decode cX0_pulse 24 = .ok (.iload_n 1, 1) := by decide +kernel
theorem dX0_pulse_25 : decode cX0_pulse 25 = .ok (.baload, 1) := by decide +kernel
theorem dX0_pulse_26 : decode cX0_pulse 26 = .ok (.ifCond .eq 6, 3) := by decide +kernel
theorem dX0_pulse_29 : decode cX0_pulse 29 = .ok (.bipush (-3), 2) := by decide +kernel
theorem dX0_pulse_31 : decode cX0_pulse 31 = .ok (.ireturn, 1) := by decide +kernel
theorem dX0_pulse_32 : decode cX0_pulse 32 = .ok (.aload_n 0, 1) := by decide +kernel
theorem dX0_pulse_33 : decode cX0_pulse 33 = .ok (.getfield 13, 3) := by decide +kernel
theorem dX0_pulse_36 : decode cX0_pulse 36 = .ok (.iload_n 1, 1) := by decide +kernel
theorem dX0_pulse_37 : decode cX0_pulse 37 = .ok (.baload, 1) := by decide +kernel
theorem dX0_pulse_38 : decode cX0_pulse 38 = .ok (.istore 4, 2) := by decide +kernel
theorem dX0_pulse_40 : decode cX0_pulse 40 = .ok (.iload_n 3, 1) := by decide +kernel
theorem dX0_pulse_41 : decode cX0_pulse 41 = .ok (.ifCond .ge 7, 3) := by decide +kernel
theorem dX0_pulse_44 : decode cX0_pulse 44 = .ok (.iconst 0, 1) := by decide +kernel
theorem dX0_pulse_45 : decode cX0_pulse 45 = .ok (.goto 15, 3) := by decide +kernel
theorem dX0_pulse_48 : decode cX0_pulse 48 = .ok (.iload_n 3, 1) := by decide +kernel
theorem dX0_pulse_49 : decode cX0_pulse 49 = .ok (.bipush 16, 2) := by decide +kernel
theorem dX0_pulse_51 : decode cX0_pulse 51 = .ok (.if_icmp .le 8, 3) := by decide +kernel
theorem dX0_pulse_54 : decode cX0_pulse 54 = .ok (.bipush 16, 2) := by decide +kernel
theorem dX0_pulse_56 : decode cX0_pulse 56 = .ok (.goto 4, 3) := by decide +kernel
theorem dX0_pulse_59 : decode cX0_pulse 59 = .ok (.iload_n 3, 1) := by decide +kernel
theorem dX0_pulse_60 : decode cX0_pulse 60 = .ok (.istore 5, 2) := by decide +kernel
theorem dX0_pulse_62 : decode cX0_pulse 62 = .ok (.iconst 0, 1) := by decide +kernel
theorem dX0_pulse_63 : decode cX0_pulse 63 = .ok (.istore 6, 2) := by decide +kernel
theorem dX0_pulse_65 : decode cX0_pulse 65 = .ok (.iconst 0, 1) := by decide +kernel
theorem dX0_pulse_66 : decode cX0_pulse 66 = .ok (.istore 7, 2) := by decide +kernel
theorem dX0_pulse_68 : decode cX0_pulse 68 = .ok (.iload 7, 2) := by decide +kernel
theorem dX0_pulse_70 : decode cX0_pulse 70 = .ok (.iload 5, 2) := by decide +kernel
theorem dX0_pulse_72 : decode cX0_pulse 72 = .ok (.if_icmp .ge 42, 3) := by decide +kernel
theorem dX0_pulse_75 : decode cX0_pulse 75 = .ok (.aload_n 0, 1) := by decide +kernel
theorem dX0_pulse_76 : decode cX0_pulse 76 = .ok (.iload_n 1, 1) := by decide +kernel
theorem dX0_pulse_77 : decode cX0_pulse 77 = .ok (.iload_n 2, 1) := by decide +kernel
theorem dX0_pulse_78 : decode cX0_pulse 78 = .ok (.invokevirtual 68, 3) := by decide +kernel
theorem dX0_pulse_81 : decode cX0_pulse 81 = .ok (.pop, 1) := by decide +kernel
theorem dX0_pulse_82 : decode cX0_pulse 82 = .ok (.iload 6, 2) := by decide +kernel
theorem dX0_pulse_84 : decode cX0_pulse 84 = .ok (.aload_n 0, 1) := by decide +kernel
theorem dX0_pulse_85 : decode cX0_pulse 85 = .ok (.invokevirtual 72, 3) := by decide +kernel
theorem dX0_pulse_88 : decode cX0_pulse 88 = .ok (.iadd, 1) := by decide +kernel
theorem dX0_pulse_89 : decode cX0_pulse 89 = .ok (.istore 6, 2) := by decide +kernel
theorem dX0_pulse_91 : decode cX0_pulse 91 = .ok (.aload_n 0, 1) := by decide +kernel
theorem dX0_pulse_92 : decode cX0_pulse 92 = .ok (.iload_n 1, 1) := by decide +kernel
theorem dX0_pulse_93 : decode cX0_pulse 93 = .ok (.iload 4, 2) := by decide +kernel
theorem dX0_pulse_95 : decode cX0_pulse 95 = .ok (.invokevirtual 68, 3) := by decide +kernel
theorem dX0_pulse_98 : decode cX0_pulse 98 = .ok (.pop, 1) := by decide +kernel
theorem dX0_pulse_99 : decode cX0_pulse 99 = .ok (.iload 6, 2) := by decide +kernel
theorem dX0_pulse_101 : decode cX0_pulse 101 = .ok (.aload_n 0, 1) := by decide +kernel
theorem dX0_pulse_102 : decode cX0_pulse 102 = .ok (.invokevirtual 72, 3) := by decide +kernel
theorem dX0_pulse_105 : decode cX0_pulse 105 = .ok (.iadd, 1) := by decide +kernel
theorem dX0_pulse_106 : decode cX0_pulse 106 = .ok (.istore 6, 2) := by decide +kernel
theorem dX0_pulse_108 : decode cX0_pulse 108 = .ok (.iinc 7 1, 3) := by decide +kernel
theorem dX0_pulse_111 : decode cX0_pulse 111 = .ok (.goto (-43), 3) := by decide +kernel
theorem dX0_pulse_114 : decode cX0_pulse 114 = .ok (.iload 6, 2) := by decide +kernel
theorem dX0_pulse_116 : decode cX0_pulse 116 = .ok (.ireturn, 1) := by decide +kernel
theorem dX0_registersChanged_0 : decode cX0_registersChanged 0 = .ok (.iconst 0, 1) := by decide +kernel
theorem dX0_registersChanged_1 : decode cX0_registersChanged 1 = .ok (.istore_n 1, 1) := by decide +kernel
theorem dX0_registersChanged_2 : decode cX0_registersChanged 2 = .ok (.iconst 0, 1) := by decide +kernel
theorem dX0_registersChanged_3 : decode cX0_registersChanged 3 = .ok (.istore_n 2, 1) := by decide +kernel
theorem dX0_registersChanged_4 : decode cX0_registersChanged 4 = .ok (.iload_n 2, 1) := by decide +kernel
theorem dX0_registersChanged_5 : decode cX0_registersChanged 5 = .ok (.bipush 12, 2) := by decide +kernel
theorem dX0_registersChanged_7 : decode cX0_registersChanged 7 = .ok (.if_icmp .ge 20, 3) := by decide +kernel
theorem dX0_registersChanged_10 : decode cX0_registersChanged 10 = .ok (.iload_n 1, 1) := by decide +kernel
theorem dX0_registersChanged_11 : decode cX0_registersChanged 11 = .ok (.aload_n 0, 1) := by decide +kernel
theorem dX0_registersChanged_12 : decode cX0_registersChanged 12 = .ok (.getfield 75, 3) := by decide +kernel
theorem dX0_registersChanged_15 : decode cX0_registersChanged 15 = .ok (.iload_n 2, 1) := by decide +kernel
theorem dX0_registersChanged_16 : decode cX0_registersChanged 16 = .ok (.ishr, 1) := by decide +kernel
theorem dX0_registersChanged_17 : decode cX0_registersChanged 17 = .ok (.iconst 1, 1) := by decide +kernel
theorem dX0_registersChanged_18 : decode cX0_registersChanged 18 = .ok (.iand, 1) := by decide +kernel
theorem dX0_registersChanged_19 : decode cX0_registersChanged 19 = .ok (.iadd, 1) := by decide +kernel
theorem dX0_registersChanged_20 : decode cX0_registersChanged 20 = .ok (.istore_n 1, 1) := by decide +kernel
theorem dX0_registersChanged_21 : decode cX0_registersChanged 21 = .ok (.iinc 2 1, 3) := by decide +kernel
theorem dX0_registersChanged_24 : decode cX0_registersChanged 24 = .ok (.goto (-20), 3) := by decide +kernel
theorem dX0_registersChanged_27 : decode cX0_registersChanged 27 = .ok (.iload_n 1, 1) := by decide +kernel
theorem dX0_registersChanged_28 : decode cX0_registersChanged 28 = .ok (.ireturn, 1) := by decide +kernel
theorem dX0_value_0 : decode cX0_value 0 = .ok (.aload_n 0, 1) := by decide +kernel
theorem dX0_value_1 : decode cX0_value 1 = .ok (.iload_n 1, 1) := by decide +kernel
theorem dX0_value_2 : decode cX0_value 2 = .ok (.invokevirtual 38, 3) := by decide +kernel
theorem dX0_value_5 : decode cX0_value 5 = .ok (.ifCond .eq 12, 3) := by decide +kernel
theorem dX0_value_8 : decode cX0_value 8 = .ok (.aload_n 0, 1) := by decide +kernel
theorem dX0_value_9 : decode cX0_value 9 = .ok (.getfield 13, 3) := by decide +kernel
theorem dX0_value_12 : decode cX0_value 12 = .ok (.iload_n 1, 1) := by decide +kernel
theorem dX0_value_13 : decode cX0_value 13 = .ok (.baload, 1) := by decide +kernel
theorem dX0_value_14 : decode cX0_value 14 = .ok (.goto 4, 3) := by decide +kernel
theorem dX0_value_17 : decode cX0_value 17 = .ok (.iconst (-1), 1) := by decide +kernel
theorem dX0_value_18 : decode cX0_value 18 = .ok (.ireturn, 1) := by decide +kernel
theorem dX0_kind_0 : decode cX0_kind 0 = .ok (.aload_n 0, 1) := by decide +kernel
theorem dX0_kind_1 : decode cX0_kind 1 = .ok (.iload_n 1, 1) := by decide +kernel
theorem dX0_kind_2 : decode cX0_kind 2 = .ok (.invokevirtual 38, 3) := by decide +kernel
theorem dX0_kind_5 : decode cX0_kind 5 = .ok (.ifCond .eq 12, 3) := by decide +kernel
theorem dX0_kind_8 : decode cX0_kind 8 = .ok (.aload_n 0, 1) := by decide +kernel
theorem dX0_kind_9 : decode cX0_kind 9 = .ok (.getfield 7, 3) := by decide +kernel
theorem dX0_kind_12 : decode cX0_kind 12 = .ok (.iload_n 1, 1) := by decide +kernel
theorem dX0_kind_13 : decode cX0_kind 13 = .ok (.baload, 1) := by decide +kernel
theorem dX0_kind_14 : decode cX0_kind 14 = .ok (.goto 4, 3) := by decide +kernel
theorem dX0_kind_17 : decode cX0_kind 17 = .ok (.iconst (-1), 1) := by decide +kernel
theorem dX0_kind_18 : decode cX0_kind 18 = .ok (.ireturn, 1) := by decide +kernel
theorem dX0_hanging_0 : decode cX0_hanging 0 = .ok (.aload_n 0, 1) := by decide +kernel
theorem dX0_hanging_1 : decode cX0_hanging 1 = .ok (.iload_n 1, 1) := by decide +kernel
theorem dX0_hanging_2 : decode cX0_hanging 2 = .ok (.invokevirtual 38, 3) := by decide +kernel
theorem dX0_hanging_5 : decode cX0_hanging 5 = .ok (.ifCond .eq 11, 3) := by decide +kernel
theorem dX0_hanging_8 : decode cX0_hanging 8 = .ok (.aload_n 0, 1) := by decide +kernel
theorem dX0_hanging_9 : decode cX0_hanging 9 = .ok (.iload_n 1, 1) := by decide +kernel
theorem dX0_hanging_10 : decode cX0_hanging 10 = .ok (.invokevirtual 53, 3) := by decide +kernel
theorem dX0_hanging_13 : decode cX0_hanging 13 = .ok (.goto 4, 3) := by decide +kernel
theorem dX0_hanging_16 : decode cX0_hanging 16 = .ok (.iconst (-1), 1) := by decide +kernel
theorem dX0_hanging_17 : decode cX0_hanging 17 = .ok (.ireturn, 1) := by decide +kernel
theorem dX0_depth_0 : decode cX0_depth 0 = .ok (.iconst 0, 1) := by decide +kernel
theorem dX0_depth_1 : decode cX0_depth 1 = .ok (.istore_n 1, 1) := by decide +kernel
theorem dX0_depth_2 : decode cX0_depth 2 = .ok (.iconst 0, 1) := by decide +kernel
theorem dX0_depth_3 : decode cX0_depth 3 = .ok (.istore_n 2, 1) := by decide +kernel
theorem dX0_depth_4 : decode cX0_depth 4 = .ok (.iload_n 2, 1) := by decide +kernel
theorem dX0_depth_5 : decode cX0_depth 5 = .ok (.bipush 12, 2) := by decide +kernel
theorem dX0_depth_7 : decode cX0_depth 7 = .ok (.if_icmp .ge 36, 3) := by decide +kernel
theorem dX0_depth_10 : decode cX0_depth 10 = .ok (.aload_n 0, 1) := by decide +kernel
theorem dX0_depth_11 : decode cX0_depth 11 = .ok (.getfield 7, 3) := by decide +kernel
theorem dX0_depth_14 : decode cX0_depth 14 = .ok (.iload_n 2, 1) := by decide +kernel
theorem dX0_depth_15 : decode cX0_depth 15 = .ok (.baload, 1) := by decide +kernel
theorem dX0_depth_16 : decode cX0_depth 16 = .ok (.iconst 1, 1) := by decide +kernel
theorem dX0_depth_17 : decode cX0_depth 17 = .ok (.if_icmp .ne 20, 3) := by decide +kernel
theorem dX0_depth_20 : decode cX0_depth 20 = .ok (.aload_n 0, 1) := by decide +kernel
theorem dX0_depth_21 : decode cX0_depth 21 = .ok (.getfield 32, 3) := by decide +kernel
theorem dX0_depth_24 : decode cX0_depth 24 = .ok (.iload_n 2, 1) := by decide +kernel
theorem dX0_depth_25 : decode cX0_depth 25 = .ok (.baload, 1) := by decide +kernel
theorem dX0_depth_26 : decode cX0_depth 26 = .ok (.iload_n 1, 1) := by decide +kernel
theorem dX0_depth_27 : decode cX0_depth 27 = .ok (.if_icmp .le 10, 3) := by decide +kernel
theorem dX0_depth_30 : decode cX0_depth 30 = .ok (.aload_n 0, 1) := by decide +kernel
theorem dX0_depth_31 : decode cX0_depth 31 = .ok (.getfield 32, 3) := by decide +kernel
theorem dX0_depth_34 : decode cX0_depth 34 = .ok (.iload_n 2, 1) := by decide +kernel
theorem dX0_depth_35 : decode cX0_depth 35 = .ok (.baload, 1) := by decide +kernel
theorem dX0_depth_36 : decode cX0_depth 36 = .ok (.istore_n 1, 1) := by decide +kernel
theorem dX0_depth_37 : decode cX0_depth 37 = .ok (.iinc 2 1, 3) := by decide +kernel
theorem dX0_depth_40 : decode cX0_depth 40 = .ok (.goto (-36), 3) := by decide +kernel
theorem dX0_depth_43 : decode cX0_depth 43 = .ok (.iload_n 1, 1) := by decide +kernel
theorem dX0_depth_44 : decode cX0_depth 44 = .ok (.ireturn, 1) := by decide +kernel
end
section
/-! decode rows -/
set_option maxRecDepth 100000
theorem dX1_init_0 : decode cX1_init 0 = .ok (.aload_n 0, 1) := by decide +kernel
theorem dX1_init_1 : decode cX1_init 1 = .ok (.invokespecial 1, 3) := by decide +kernel
theorem dX1_init_4 : decode cX1_init 4 = .ok (.aload_n 0, 1) := by decide +kernel
theorem dX1_init_5 : decode cX1_init 5 = .ok (.bipush 12, 2) := by decide +kernel
theorem dX1_init_7 : decode cX1_init 7 = .ok (.newarray .int, 2) := by decide +kernel
theorem dX1_init_9 : decode cX1_init 9 = .ok (.putfield 7, 3) := by decide +kernel
theorem dX1_init_12 : decode cX1_init 12 = .ok (.aload_n 0, 1) := by decide +kernel
theorem dX1_init_13 : decode cX1_init 13 = .ok (.bipush 12, 2) := by decide +kernel
theorem dX1_init_15 : decode cX1_init 15 = .ok (.newarray .int, 2) := by decide +kernel
theorem dX1_init_17 : decode cX1_init 17 = .ok (.putfield 13, 3) := by decide +kernel
theorem dX1_init_20 : decode cX1_init 20 = .ok (.aload_n 0, 1) := by decide +kernel
theorem dX1_init_21 : decode cX1_init 21 = .ok (.bipush 12, 2) := by decide +kernel
theorem dX1_init_23 : decode cX1_init 23 = .ok (.newarray .int, 2) := by decide +kernel
theorem dX1_init_25 : decode cX1_init 25 = .ok (.putfield 16, 3) := by decide +kernel
theorem dX1_init_28 : decode cX1_init 28 = .ok (.aload_n 0, 1) := by decide +kernel
theorem dX1_init_29 : decode cX1_init 29 = .ok (.bipush 12, 2) := by decide +kernel
theorem dX1_init_31 : decode cX1_init 31 = .ok (.newarray .int, 2) := by decide +kernel
theorem dX1_init_33 : decode cX1_init 33 = .ok (.putfield 19, 3) := by decide +kernel
theorem dX1_init_36 : decode cX1_init 36 = .ok (.aload_n 0, 1) := by decide +kernel
theorem dX1_init_37 : decode cX1_init 37 = .ok (.bipush 12, 2) := by decide +kernel
theorem dX1_init_39 : decode cX1_init 39 = .ok (.newarray .int, 2) := by decide +kernel
theorem dX1_init_41 : decode cX1_init 41 = .ok (.putfield 22, 3) := by decide +kernel
theorem dX1_init_44 : decode cX1_init 44 = .ok (.aload_n 0, 1) := by decide +kernel
theorem dX1_init_45 : decode cX1_init 45 = .ok (.bipush 12, 2) := by decide +kernel
theorem dX1_init_47 : decode cX1_init 47 = .ok (.newarray .int, 2) := by decide +kernel
theorem dX1_init_49 : decode cX1_init 49 = .ok (.putfield 25, 3) := by decide +kernel
theorem dX1_init_52 : decode cX1_init 52 = .ok (.aload_n 0, 1) := by decide +kernel
theorem dX1_init_53 : decode cX1_init 53 = .ok (.bipush 12, 2) := by decide +kernel
theorem dX1_init_55 : decode cX1_init 55 = .ok (.newarray .int, 2) := by decide +kernel
theorem dX1_init_57 : decode cX1_init 57 = .ok (.putfield 28, 3) := by decide +kernel
theorem dX1_init_60 : decode cX1_init 60 = .ok (.aload_n 0, 1) := by decide +kernel
theorem dX1_init_61 : decode cX1_init 61 = .ok (.bipush 12, 2) := by decide +kernel
theorem dX1_init_63 : decode cX1_init 63 = .ok (.newarray .int, 2) := by decide +kernel
theorem dX1_init_65 : decode cX1_init 65 = .ok (.putfield 31, 3) := by decide +kernel
theorem dX1_init_68 : decode cX1_init 68 = .ok (.return_, 1) := by decide +kernel
theorem dX1_wire_0 : decode cX1_wire 0 = .ok (.iload_n 2, 1) := by decide +kernel
theorem dX1_wire_1 : decode cX1_wire 1 = .ok (.ifCond .lt 34, 3) := by decide +kernel
theorem dX1_wire_4 : decode cX1_wire 4 = .ok (.iload_n 2, 1) := by decide +kernel
theorem dX1_wire_5 : decode cX1_wire 5 = .ok (.bipush 8, 2) := by decide +kernel
theorem dX1_wire_7 : decode cX1_wire 7 = .ok (.if_icmp .gt 28, 3) := by decide +kernel
theorem dX1_wire_10 : decode cX1_wire 10 = .ok (.aload_n 0, 1) := by decide +kernel
theorem dX1_wire_11 : decode cX1_wire 11 = .ok (.iload_n 1, 1) := by decide +kernel
theorem dX1_wire_12 : decode cX1_wire 12 = .ok (.invokevirtual 41, 3) := by decide +kernel
theorem dX1_wire_15 : decode cX1_wire 15 = .ok (.ifCond .eq 20, 3) := by decide +kernel
theorem dX1_wire_18 : decode cX1_wire 18 = .ok (.aload_n 0, 1) := by decide +kernel
theorem dX1_wire_19 : decode cX1_wire 19 = .ok (.iload_n 3, 1) := by decide +kernel
theorem dX1_wire_20 : decode cX1_wire 20 = .ok (.invokevirtual 41, 3) := by decide +kernel
theorem dX1_wire_23 : decode cX1_wire 23 = .ok (.ifCond .eq 12, 3) := by decide +kernel
theorem dX1_wire_26 : decode cX1_wire 26 = .ok (.aload_n 0, 1) := by decide +kernel
theorem dX1_wire_27 : decode cX1_wire 27 = .ok (.iload 4, 2) := by decide +kernel
theorem dX1_wire_29 : decode cX1_wire 29 = .ok (.invokevirtual 41, 3) := by decide +kernel
theorem dX1_wire_32 : decode cX1_wire 32 = .ok (.ifCond .ne 5, 3) := by decide +kernel
theorem dX1_wire_35 : decode cX1_wire 35 = .ok (.iconst (-1), 1) := by decide +kernel
theorem dX1_wire_36 : decode cX1_wire 36 = .ok (.ireturn, 1) := by decide +kernel
theorem dX1_wire_37 : decode cX1_wire 37 = .ok (.aload_n 0, 1) := by decide +kernel
theorem dX1_wire_38 : decode cX1_wire 38 = .ok (.iload_n 1, 1) := by decide +kernel
theorem dX1_wire_39 : decode cX1_wire 39 = .ok (.invokevirtual 45, 3) := by decide +kernel
theorem dX1_wire_42 : decode cX1_wire 42 = .ok (.ifCond .eq 6, 3) := by decide +kernel
theorem dX1_wire_45 : decode cX1_wire 45 = .ok (.bipush (-3), 2) := by decide +kernel
theorem dX1_wire_47 : decode cX1_wire 47 = .ok (.ireturn, 1) := by decide +kernel
theorem dX1_wire_48 : decode cX1_wire 48 = .ok (.aload_n 0, 1) := by decide +kernel
theorem dX1_wire_49 : decode cX1_wire 49 = .ok (.getfield 7, 3) := by decide +kernel
theorem dX1_wire_52 : decode cX1_wire 52 = .ok (.iload_n 1, 1) := by decide +kernel
theorem dX1_wire_53 : decode cX1_wire 53 = .ok (.iaload, 1) := by decide +kernel
theorem dX1_wire_54 : decode cX1_wire 54 = .ok (.istore 5, 2) := by decide +kernel
theorem dX1_wire_56 : decode cX1_wire 56 = .ok (.aload_n 0, 1) := by decide +kernel
theorem dX1_wire_57 : decode cX1_wire 57 = .ok (.getfield 13, 3) := by decide +kernel
theorem dX1_wire_60 : decode cX1_wire 60 = .ok (.iload_n 1, 1) := by decide +kernel
theorem dX1_wire_61 : decode cX1_wire 61 = .ok (.iaload, 1) := by decide +kernel
theorem dX1_wire_62 : decode cX1_wire 62 = .ok (.istore 6, 2) := by decide +kernel
theorem dX1_wire_64 : decode cX1_wire 64 = .ok (.aload_n 0, 1) := by decide +kernel
theorem dX1_wire_65 : decode cX1_wire 65 = .ok (.getfield 16, 3) := by decide +kernel
theorem dX1_wire_68 : decode cX1_wire 68 = .ok (.iload_n 1, 1) := by decide +kernel
theorem dX1_wire_69 : decode cX1_wire 69 = .ok (.iaload, 1) := by decide +kernel
theorem dX1_wire_70 : decode cX1_wire 70 = .ok (.istore 7, 2) := by decide +kernel
theorem dX1_wire_72 : decode cX1_wire 72 = .ok (.aload_n 0, 1) := by decide +kernel
theorem dX1_wire_73 : decode cX1_wire 73 = .ok (.getfield 19, 3) := by decide +kernel
theorem dX1_wire_76 : decode cX1_wire 76 = .ok (.iload_n 1, 1) := by decide +kernel
theorem dX1_wire_77 : decode cX1_wire 77 = .ok (.iaload, 1) := by decide +kernel
theorem dX1_wire_78 : decode cX1_wire 78 = .ok (.istore 8, 2) := by decide +kernel
theorem dX1_wire_80 : decode cX1_wire 80 = .ok (.aload_n 0, 1) := by decide +kernel
theorem dX1_wire_81 : decode cX1_wire 81 = .ok (.iload_n 1, 1) := by decide +kernel
theorem dX1_wire_82 : decode cX1_wire 82 = .ok (.iconst 1, 1) := by decide +kernel
theorem dX1_wire_83 : decode cX1_wire 83 = .ok (.iload_n 2, 1) := by decide +kernel
theorem dX1_wire_84 : decode cX1_wire 84 = .ok (.iload_n 3, 1) := by decide +kernel
theorem dX1_wire_85 : decode cX1_wire 85 = .ok (.iload 4, 2) := by decide +kernel
theorem dX1_wire_87 : decode cX1_wire 87 = .ok (.invokevirtual 48, 3) := by decide +kernel
theorem dX1_wire_90 : decode cX1_wire 90 = .ok (.aload_n 0, 1) := by decide +kernel
theorem dX1_wire_91 : decode cX1_wire 91 = .ok (.invokevirtual 52, 3) := by decide +kernel
theorem dX1_wire_94 : decode cX1_wire 94 = .ok (.ifCond .eq 19, 3) := by decide +kernel
theorem dX1_wire_97 : decode cX1_wire 97 = .ok (.aload_n 0, 1) := by decide +kernel
theorem dX1_wire_98 : decode cX1_wire 98 = .ok (.iload_n 1, 1) := by decide +kernel
theorem dX1_wire_99 : decode cX1_wire 99 = .ok (.iload 5, 2) := by decide +kernel
theorem dX1_wire_101 : decode cX1_wire 101 = .ok (.iload 6, 2) := by decide +kernel
theorem dX1_wire_103 : decode cX1_wire 103 = .ok (.iload 7, 2) := by decide +kernel
theorem dX1_wire_105 : decode cX1_wire 105 = .ok (.iload 8, 2) := by decide +kernel
theorem dX1_wire_107 : decode cX1_wire 107 = .ok (.invokevirtual 48, 3) := by decide +kernel
theorem dX1_wire_110 : decode cX1_wire 110 = .ok (.bipush (-2), 2) := by decide +kernel
theorem dX1_wire_112 : decode cX1_wire 112 = .ok (.ireturn, 1) := by decide +kernel
theorem dX1_wire_113 : decode cX1_wire 113 = .ok (.aload_n 0, 1) := by decide +kernel
theorem dX1_wire_114 : decode cX1_wire 114 = .ok (.invokevirtual 56, 3) := by decide +kernel
theorem dX1_wire_117 : decode cX1_wire 117 = .ok (.aload_n 0, 1) := by decide +kernel
theorem dX1_wire_118 : decode cX1_wire 118 = .ok (.getfield 25, 3) := by decide +kernel
theorem dX1_wire_121 : decode cX1_wire 121 = .ok (.iload_n 1, 1) := by decide +kernel
theorem dX1_wire_122 : decode cX1_wire 122 = .ok (.iaload, 1) := by decide +kernel
theorem dX1_wire_123 : decode cX1_wire 123 = .ok (.ireturn, 1) := by decide +kernel
theorem dX1_isSignal_0 : decode cX1_isSignal 0 = .ok (.iload_n 1, 1) := by decide +kernel
theorem dX1_isSignal_1 : decode cX1_isSignal 1 = .ok (.ifCond .lt 13, 3) := by decide +kernel
theorem dX1_isSignal_4 : decode cX1_isSignal 4 = .ok (.iload_n 1, 1) := by decide +kernel
theorem dX1_isSignal_5 : decode cX1_isSignal 5 = .ok (.bipush 11, 2) := by decide +kernel
theorem dX1_isSignal_7 : decode cX1_isSignal 7 = .ok (.if_icmp .gt 7, 3) := by decide +kernel
theorem dX1_isSignal_10 : decode cX1_isSignal 10 = .ok (.iconst 1, 1) := by decide +kernel
theorem dX1_isSignal_11 : decode cX1_isSignal 11 = .ok (.goto 4, 3) := by decide +kernel
theorem dX1_isSignal_14 : decode cX1_isSignal 14 = .ok (.iconst 0, 1) := by decide +kernel
theorem dX1_isSignal_15 : decode cX1_isSignal 15 = .ok (.ireturn, 1) := by decide +kernel
theorem dX1_isClock_0 : decode cX1_isClock 0 = .ok (.iconst 0, 1) := by decide +kernel
theorem dX1_isClock_1 : decode cX1_isClock 1 = .ok (.istore_n 2, 1) := by decide +kernel
theorem dX1_isClock_2 : decode cX1_isClock 2 = .ok (.iload_n 2, 1) := by decide +kernel
theorem dX1_isClock_3 : decode cX1_isClock 3 = .ok (.bipush 12, 2) := by decide +kernel
theorem dX1_isClock_5 : decode cX1_isClock 5 = .ok (.if_icmp .ge 31, 3) := by decide +kernel
theorem dX1_isClock_8 : decode cX1_isClock 8 = .ok (.aload_n 0, 1) := by decide +kernel
theorem dX1_isClock_9 : decode cX1_isClock 9 = .ok (.getfield 7, 3) := by decide +kernel
theorem dX1_isClock_12 : decode cX1_isClock 12 = .ok (.iload_n 2, 1) := by decide +kernel
theorem dX1_isClock_13 : decode cX1_isClock 13 = .ok (.iaload, 1) := by decide +kernel
theorem dX1_isClock_14 : decode cX1_isClock 14 = .ok (.iconst 2, 1) := by decide +kernel
theorem dX1_isClock_15 : decode cX1_isClock 15 = .ok (.if_icmp .ne 15, 3) := by decide +kernel
theorem dX1_isClock_18 : decode cX1_isClock 18 = .ok (.aload_n 0, 1) := by decide +kernel
theorem dX1_isClock_19 : decode cX1_isClock 19 = .ok (.getfield 22, 3) := by decide +kernel
theorem dX1_isClock_22 : decode cX1_isClock 22 = .ok (.iload_n 2, 1) := by decide +kernel
theorem dX1_isClock_23 : decode cX1_isClock 23 = .ok (.iaload, 1) := by decide +kernel
theorem dX1_isClock_24 : decode cX1_isClock 24 = .ok (.iload_n 1, 1) := by decide +kernel
theorem dX1_isClock_25 : decode cX1_isClock 25 = .ok (.if_icmp .ne 5, 3) := by decide +kernel
theorem dX1_isClock_28 : decode cX1_isClock 28 = .ok (.iconst 1, 1) := by decide +kernel
theorem dX1_isClock_29 : decode cX1_isClock 29 = .ok (.ireturn, 1) := by decide +kernel
theorem dX1_isClock_30 : decode cX1_isClock 30 = .ok (.iinc 2 1, 3) := by decide +kernel
theorem dX1_isClock_33 : decode cX1_isClock 33 = .ok (.goto (-31), 3) := by decide +kernel
theorem dX1_isClock_36 : decode cX1_isClock 36 = .ok (.iconst 0, 1) := by decide +kernel
theorem dX1_isClock_37 : decode cX1_isClock 37 = .ok (.ireturn, 1) := by decide +kernel
theorem dX1_give_0 : decode cX1_give 0 = .ok (.aload_n 0, 1) := by decide +kernel
theorem dX1_give_1 : decode cX1_give 1 = .ok (.getfield 7, 3) := by decide +kernel
theorem dX1_give_4 : decode cX1_give 4 = .ok (.iload_n 1, 1) := by decide +kernel
theorem dX1_give_5 : decode cX1_give 5 = .ok (.iload_n 2, 1) := by decide +kernel
theorem dX1_give_6 : decode cX1_give 6 = .ok (.iastore, 1) := by decide +kernel
theorem dX1_give_7 : decode cX1_give 7 = .ok (.aload_n 0, 1) := by decide +kernel
theorem dX1_give_8 : decode cX1_give 8 = .ok (.getfield 13, 3) := by decide +kernel
theorem dX1_give_11 : decode cX1_give 11 = .ok (.iload_n 1, 1) := by decide +kernel
theorem dX1_give_12 : decode cX1_give 12 = .ok (.iload_n 3, 1) := by decide +kernel
theorem dX1_give_13 : decode cX1_give 13 = .ok (.iastore, 1) := by decide +kernel
theorem dX1_give_14 : decode cX1_give 14 = .ok (.aload_n 0, 1) := by decide +kernel
theorem dX1_give_15 : decode cX1_give 15 = .ok (.getfield 16, 3) := by decide +kernel
theorem dX1_give_18 : decode cX1_give 18 = .ok (.iload_n 1, 1) := by decide +kernel
theorem dX1_give_19 : decode cX1_give 19 = .ok (.iload 4, 2) := by decide +kernel
theorem dX1_give_21 : decode cX1_give 21 = .ok (.iastore, 1) := by decide +kernel
theorem dX1_give_22 : decode cX1_give 22 = .ok (.aload_n 0, 1) := by decide +kernel
theorem dX1_give_23 : decode cX1_give 23 = .ok (.getfield 19, 3) := by decide +kernel
theorem dX1_give_26 : decode cX1_give 26 = .ok (.iload_n 1, 1) := by decide +kernel
theorem dX1_give_27 : decode cX1_give 27 = .ok (.iload 5, 2) := by decide +kernel
theorem dX1_give_29 : decode cX1_give 29 = .ok (.iastore, 1) := by decide +kernel
theorem dX1_give_30 : decode cX1_give 30 = .ok (.return_, 1) := by decide +kernel
theorem dX1_hasCircle_0 : decode cX1_hasCircle 0 = .ok (.aload_n 0, 1) := by decide +kernel
theorem dX1_hasCircle_1 : decode cX1_hasCircle 1 = .ok (.invokevirtual 38, 3) := by decide +kernel
theorem dX1_hasCircle_4 : decode cX1_hasCircle 4 = .ok (.iconst 0, 1) := by decide +kernel
theorem dX1_hasCircle_5 : decode cX1_hasCircle 5 = .ok (.istore_n 1, 1) := by decide +kernel
theorem dX1_hasCircle_6 : decode cX1_hasCircle 6 = .ok (.iload_n 1, 1) := by decide +kernel
theorem dX1_hasCircle_7 : decode cX1_hasCircle 7 = .ok (.bipush 12, 2) := by decide +kernel
theorem dX1_hasCircle_9 : decode cX1_hasCircle 9 = .ok (.if_icmp .ge 25, 3) := by decide +kernel
theorem dX1_hasCircle_12 : decode cX1_hasCircle 12 = .ok (.aload_n 0, 1) := by decide +kernel
theorem dX1_hasCircle_13 : decode cX1_hasCircle 13 = .ok (.getfield 31, 3) := by decide +kernel
theorem dX1_hasCircle_16 : decode cX1_hasCircle 16 = .ok (.iload_n 1, 1) := by decide +kernel
theorem dX1_hasCircle_17 : decode cX1_hasCircle 17 = .ok (.iaload, 1) := by decide +kernel
theorem dX1_hasCircle_18 : decode cX1_hasCircle 18 = .ok (.iload_n 1, 1) := by decide +kernel
theorem dX1_hasCircle_19 : decode cX1_hasCircle 19 = .ok (.ishr, 1) := by decide +kernel
theorem dX1_hasCircle_20 : decode cX1_hasCircle 20 = .ok (.iconst 1, 1) := by decide +kernel
theorem dX1_hasCircle_21 : decode cX1_hasCircle 21 = .ok (.iand, 1) := by decide +kernel
theorem dX1_hasCircle_22 : decode cX1_hasCircle 22 = .ok (.iconst 1, 1) := by decide +kernel
theorem dX1_hasCircle_23 : decode cX1_hasCircle 23 = .ok (.if_icmp .ne 5, 3) := by decide +kernel
theorem dX1_hasCircle_26 : decode cX1_hasCircle 26 = .ok (.iconst 1, 1) := by decide +kernel
theorem dX1_hasCircle_27 : decode cX1_hasCircle 27 = .ok (.ireturn, 1) := by decide +kernel
theorem dX1_hasCircle_28 : decode cX1_hasCircle 28 = .ok (.iinc 1 1, 3) := by decide +kernel
theorem dX1_hasCircle_31 : decode cX1_hasCircle 31 = .ok (.goto (-25), 3) := by decide +kernel
theorem dX1_hasCircle_34 : decode cX1_hasCircle 34 = .ok (.iconst 0, 1) := by decide +kernel
theorem dX1_hasCircle_35 : decode cX1_hasCircle 35 = .ok (.ireturn, 1) := by decide +kernel
theorem dX1_findHanging_0 : decode cX1_findHanging 0 = .ok (.iconst 0, 1) := by decide +kernel
theorem dX1_findHanging_1 : decode cX1_findHanging 1 = .ok (.istore_n 1, 1) := by decide +kernel
theorem dX1_findHanging_2 : decode cX1_findHanging 2 = .ok (.iload_n 1, 1) := by decide +kernel
theorem dX1_findHanging_3 : decode cX1_findHanging 3 = .ok (.bipush 12, 2) := by decide +kernel
theorem dX1_findHanging_5 : decode cX1_findHanging 5 = .ok (.if_icmp .ge 46, 3) := by decide +kernel
theorem dX1_findHanging_8 : decode cX1_findHanging 8 = .ok (.aload_n 0, 1) := by decide +kernel
theorem dX1_findHanging_9 : decode cX1_findHanging 9 = .ok (.getfield 31, 3) := by decide +kernel
theorem dX1_findHanging_12 : decode cX1_findHanging 12 = .ok (.iload_n 1, 1) := by decide +kernel
theorem dX1_findHanging_13 : decode cX1_findHanging 13 = .ok (.aload_n 0, 1) := by decide +kernel
theorem dX1_findHanging_14 : decode cX1_findHanging 14 = .ok (.getfield 7, 3) := by decide +kernel
theorem dX1_findHanging_17 : decode cX1_findHanging 17 = .ok (.iload_n 1, 1) := by decide +kernel
theorem dX1_findHanging_18 : decode cX1_findHanging 18 = .ok (.iaload, 1) := by decide +kernel
theorem dX1_findHanging_19 : decode cX1_findHanging 19 = .ok (.iconst 1, 1) := by decide +kernel
theorem dX1_findHanging_20 : decode cX1_findHanging 20 = .ok (.if_icmp .ne 23, 3) := by decide +kernel
theorem dX1_findHanging_23 : decode cX1_findHanging 23 = .ok (.iconst 1, 1) := by decide +kernel
theorem dX1_findHanging_24 : decode cX1_findHanging 24 = .ok (.aload_n 0, 1) := by decide +kernel
theorem dX1_findHanging_25 : decode cX1_findHanging 25 = .ok (.getfield 16, 3) := by decide +kernel
theorem dX1_findHanging_28 : decode cX1_findHanging 28 = .ok (.iload_n 1, 1) := by decide +kernel
theorem dX1_findHanging_29 : decode cX1_findHanging 29 = .ok (.iaload, 1) := by decide +kernel
theorem dX1_findHanging_30 : decode cX1_findHanging 30 = .ok (.ishl, 1) := by decide +kernel
theorem dX1_findHanging_31 : decode cX1_findHanging 31 = .ok (.iconst 1, 1) := by decide +kernel
theorem dX1_findHanging_32 : decode cX1_findHanging 32 = .ok (.aload_n 0, 1) := by decide +kernel
theorem dX1_findHanging_33 : decode cX1_findHanging 33 = .ok (.getfield 19, 3) := by decide +kernel
theorem dX1_findHanging_36 : decode cX1_findHanging 36 = .ok (.iload_n 1, 1) := by decide +kernel
theorem dX1_findHanging_37 : decode cX1_findHanging 37 = .ok (.iaload, 1) := by decide +kernel
theorem dX1_findHanging_38 : decode cX1_findHanging 38 = .ok (.ishl, 1) := by decide +kernel
theorem dX1_findHanging_39 : decode cX1_findHanging 39 = .ok (.ior, 1) := by decide +kernel
theorem dX1_findHanging_40 : decode cX1_findHanging 40 = .ok (.goto 4, 3) := by decide +kernel
theorem dX1_findHanging_43 : decode cX1_findHanging 43 = .ok (.iconst 0, 1) := by decide +kernel
theorem dX1_findHanging_44 : decode cX1_findHanging 44 = .ok (.iastore, 1) := by decide +kernel
theorem dX1_findHanging_45 : decode cX1_findHanging 45 = .ok (.iinc 1 1, 3) := by decide +kernel
theorem dX1_findHanging_48 : decode cX1_findHanging 48 = .ok (.goto (-46), 3) := by decide +kernel
theorem dX1_findHanging_51 : decode cX1_findHanging 51 = .ok (.iconst 0, 1) := by decide +kernel
theorem dX1_findHanging_52 : decode cX1_findHanging 52 = .ok (.istore_n 1, 1) := by decide +kernel
theorem dX1_findHanging_53 : decode cX1_findHanging 53 = .ok (.iload_n 1, 1) := by decide +kernel
theorem dX1_findHanging_54 : decode cX1_findHanging 54 = .ok (.bipush 12, 2) := by decide +kernel
theorem dX1_findHanging_56 : decode cX1_findHanging 56 = .ok (.if_icmp .ge 70, 3) := by decide +kernel
theorem dX1_findHanging_59 : decode cX1_findHanging 59 = .ok (.iconst 0, 1) := by decide +kernel
theorem dX1_findHanging_60 : decode cX1_findHanging 60 = .ok (.istore_n 2, 1) := by decide +kernel
theorem dX1_findHanging_61 : decode cX1_findHanging 61 = .ok (.iload_n 2, 1) := by decide +kernel
theorem dX1_findHanging_62 : decode cX1_findHanging 62 = .ok (.bipush 12, 2) := by decide +kernel
theorem dX1_findHanging_64 : decode cX1_findHanging 64 = .ok (.if_icmp .ge 56, 3) := by decide +kernel
theorem dX1_findHanging_67 : decode cX1_findHanging 67 = .ok (.iconst 0, 1) := by decide +kernel
theorem dX1_findHanging_68 : decode cX1_findHanging 68 = .ok (.istore_n 3, 1) := by decide +kernel
theorem dX1_findHanging_69 : decode cX1_findHanging 69 = .ok (.iload_n 3, 1) := by decide +kernel
theorem dX1_findHanging_70 : decode cX1_findHanging 70 = .ok (.bipush 12, 2) := by decide +kernel
theorem dX1_findHanging_72 : decode cX1_findHanging 72 = .ok (.if_icmp .ge 42, 3) := by decide +kernel
theorem dX1_findHanging_75 : decode cX1_findHanging 75 = .ok (.aload_n 0, 1) := by decide +kernel
theorem dX1_findHanging_76 : decode cX1_findHanging 76 = .ok (.getfield 31, 3) := by decide +kernel
theorem dX1_findHanging_79 : decode cX1_findHanging 79 = .ok (.iload_n 2, 1) := by decide +kernel
theorem dX1_findHanging_80 : decode cX1_findHanging 80 = .ok (.iaload, 1) := by decide +kernel
theorem dX1_findHanging_81 : decode cX1_findHanging 81 = .ok (.iload_n 3, 1) := by decide +kernel
theorem dX1_findHanging_82 : decode cX1_findHanging 82 = .ok (.ishr, 1) := by decide +kernel
theorem dX1_findHanging_83 : decode cX1_findHanging 83 = .ok (.iconst 1, 1) := by decide +kernel
theorem dX1_findHanging_84 : decode cX1_findHanging 84 = .ok (.iand, 1) := by decide +kernel
theorem dX1_findHanging_85 : decode cX1_findHanging 85 = .ok (.iconst 1, 1) := by decide +kernel
theorem dX1_findHanging_86 : decode cX1_findHanging 86 = .ok (.if_icmp .ne 22, 3) := by decide +kernel
theorem dX1_findHanging_89 : decode cX1_findHanging 89 = .ok (.aload_n 0, 1) := by decide +kernel
theorem dX1_findHanging_90 : decode cX1_findHanging 90 = .ok (.getfield 31, 3) := by decide +kernel
theorem dX1_findHanging_93 : decode cX1_findHanging 93 = .ok (.iload_n 2, 1) := by decide +kernel
theorem dX1_findHanging_94 : decode cX1_findHanging 94 = .ok (.aload_n 0, 1) := by decide +kernel
theorem dX1_findHanging_95 : decode cX1_findHanging 95 = .ok (.getfield 31, 3) := by decide +kernel
theorem dX1_findHanging_98 : decode cX1_findHanging 98 = .ok (.iload_n 2, 1) := by decide +kernel
theorem dX1_findHanging_99 : decode cX1_findHanging 99 = .ok (.iaload, 1) := by decide +kernel
theorem dX1_findHanging_100 : decode cX1_findHanging 100 = .ok (.aload_n 0, 1) := by decide +kernel
theorem dX1_findHanging_101 : decode cX1_findHanging 101 = .ok (.getfield 31, 3) := by decide +kernel
theorem dX1_findHanging_104 : decode cX1_findHanging 104 = .ok (.iload_n 3, 1) := by decide +kernel
theorem dX1_findHanging_105 : decode cX1_findHanging 105 = .ok (.iaload, 1) := by decide +kernel
theorem dX1_findHanging_106 : decode cX1_findHanging 106 = .ok (.ior, 1) := by decide +kernel
theorem dX1_findHanging_107 : decode cX1_findHanging 107 = .ok (.iastore, 1) := by decide +kernel
theorem dX1_findHanging_108 : decode cX1_findHanging 108 = .ok (.iinc 3 1, 3) := by decide +kernel
theorem dX1_findHanging_111 : decode cX1_findHanging 111 = .ok (.goto (-42), 3) := by decide +kernel
theorem dX1_findHanging_114 : decode cX1_findHanging 114 = .ok (.iinc 2 1, 3) := by decide +kernel
theorem dX1_findHanging_117 : decode cX1_findHanging 117 = .ok (.goto (-56), 3) := by decide +kernel
theorem dX1_findHanging_120 : decode cX1_findHanging 120 = .ok (.iinc 1 1, 3) := by decide +kernel
theorem dX1_findHanging_123 : decode cX1_findHanging 123 = .ok (.goto (-70), 3) := by decide +kernel
theorem dX1_findHanging_126 : decode cX1_findHanging 126 = .ok (.return_, 1) := by decide +kernel
theorem dX1_settle_0 : decode cX1_settle 0 = .ok (.iconst 0, 1) := by decide +kernel
theorem dX1_settle_1 : decode cX1_settle 1 = .ok (.istore_n 1, 1) := by decide +kernel
theorem dX1_settle_2 : decode cX1_settle 2 = .ok (.iload_n 1, 1) := by decide +kernel
theorem dX1_settle_3 : decode cX1_settle 3 = .ok (.bipush 12, 2) := by decide +kernel
theorem dX1_settle_5 : decode cX1_settle 5 = .ok (.if_icmp .ge 44, 3) := by decide +kernel
theorem dX1_settle_8 : decode cX1_settle 8 = .ok (.iconst 0, 1) := by decide +kernel
theorem dX1_settle_9 : decode cX1_settle 9 = .ok (.istore_n 2, 1) := by decide +kernel
theorem dX1_settle_10 : decode cX1_settle 10 = .ok (.iload_n 2, 1) := by decide +kernel
theorem dX1_settle_11 : decode cX1_settle 11 = .ok (.bipush 12, 2) := by decide +kernel
theorem dX1_settle_13 : decode cX1_settle 13 = .ok (.if_icmp .ge 30, 3) := by decide +kernel
theorem dX1_settle_16 : decode cX1_settle 16 = .ok (.aload_n 0, 1) := by decide +kernel
theorem dX1_settle_17 : decode cX1_settle 17 = .ok (.getfield 7, 3) := by decide +kernel
theorem dX1_settle_20 : decode cX1_settle 20 = .ok (.iload_n 2, 1) := by decide +kernel
theorem dX1_settle_21 : decode cX1_settle 21 = .ok (.iaload, 1) := by decide +kernel
theorem dX1_settle_22 : decode cX1_settle 22 = .ok (.iconst 1, 1) := by decide +kernel
theorem dX1_settle_23 : decode cX1_settle 23 = .ok (.if_icmp .ne 14, 3) := by decide +kernel
theorem dX1_settle_26 : decode cX1_settle 26 = .ok (.aload_n 0, 1) := by decide +kernel
theorem dX1_settle_27 : decode cX1_settle 27 = .ok (.getfield 25, 3) := by decide +kernel
theorem dX1_settle_30 : decode cX1_settle 30 = .ok (.iload_n 2, 1) := by decide +kernel
theorem dX1_settle_31 : decode cX1_settle 31 = .ok (.aload_n 0, 1) := by decide +kernel
theorem dX1_settle_32 : decode cX1_settle 32 = .ok (.iload_n 2, 1) := by decide +kernel
theorem dX1_settle_33 : decode cX1_settle 33 = .ok (.invokevirtual 34, 3) := by decide +kernel
theorem dX1_settle_36 : decode cX1_settle 36 = .ok (.iastore, 1) := by decide +kernel
theorem dX1_settle_37 : decode cX1_settle 37 = .ok (.iinc 2 1, 3) := by decide +kernel
theorem dX1_settle_40 : decode cX1_settle 40 = .ok (.goto (-30), 3) := by decide +kernel
theorem dX1_settle_43 : decode cX1_settle 43 = .ok (.iinc 1 1, 3) := by decide +kernel
theorem dX1_settle_46 : decode cX1_settle 46 = .ok (.goto (-44), 3) := by decide +kernel
theorem dX1_settle_49 : decode cX1_settle 49 = .ok (.return_, 1) := by decide +kernel
theorem dX1_formula_0 : decode cX1_formula 0 = .ok (.aload_n 0, 1) := by decide +kernel
theorem dX1_formula_1 : decode cX1_formula 1 = .ok (.getfield 25, 3) := by decide +kernel
theorem dX1_formula_4 : decode cX1_formula 4 = .ok (.aload_n 0, 1) := by decide +kernel
theorem dX1_formula_5 : decode cX1_formula 5 = .ok (.getfield 16, 3) := by decide +kernel
theorem dX1_formula_8 : decode cX1_formula 8 = .ok (.iload_n 1, 1) := by decide +kernel
theorem dX1_formula_9 : decode cX1_formula 9 = .ok (.iaload, 1) := by decide +kernel
theorem dX1_formula_10 : decode cX1_formula 10 = .ok (.iaload, 1) := by decide +kernel
theorem dX1_formula_11 : decode cX1_formula 11 = .ok (.istore_n 2, 1) := by decide +kernel
theorem dX1_formula_12 : decode cX1_formula 12 = .ok (.aload_n 0, 1) := by decide +kernel
theorem dX1_formula_13 : decode cX1_formula 13 = .ok (.getfield 25, 3) := by decide +kernel
theorem dX1_formula_16 : decode cX1_formula 16 = .ok (.aload_n 0, 1) := by decide +kernel
theorem dX1_formula_17 : decode cX1_formula 17 = .ok (.getfield 19, 3) := by decide +kernel
theorem dX1_formula_20 : decode cX1_formula 20 = .ok (.iload_n 1, 1) := by decide +kernel
end
section
/-! decode rows -/
set_option maxRecDepth 100000
theorem dX1_formula_21 : decode cX1_formula 21 = .ok (.iaload, 1) := by decide +kernel
theorem dX1_formula_22 : decode cX1_formula 22 = .ok (.iaload, 1) := by decide +kernel
theorem dX1_formula_23 : decode cX1_formula 23 = .ok (.istore_n 3, 1) := by decide +kernel
theorem dX1_formula_24 : decode cX1_formula 24 = .ok (.aload_n 0, 1) := by decide +kernel
theorem dX1_formula_25 : decode cX1_formula 25 = .ok (.getfield 13, 3) := by decide +kernel
theorem dX1_formula_28 : decode cX1_formula 28 = .ok (.iload_n 1, 1) := by decide +kernel
theorem dX1_formula_29 : decode cX1_formula 29 = .ok (.iaload, 1) := by decide +kernel
theorem dX1_formula_30 : decode cX1_formula 30 = .ok (.ifCond .ne 7, 3) := by decide +kernel
theorem dX1_formula_33 : decode cX1_formula 33 = .ok (.iload_n 2, 1) := by decide +kernel
theorem dX1_formula_34 : decode cX1_formula 34 = .ok (.iload_n 3, 1) := by decide +kernel
theorem dX1_formula_35 : decode cX1_formula 35 = .ok (.iand, 1) := by decide +kernel
theorem dX1_formula_36 : decode cX1_formula 36 = .ok (.ireturn, 1) := by decide +kernel
theorem dX1_formula_37 : decode cX1_formula 37 = .ok (.aload_n 0, 1) := by decide +kernel
theorem dX1_formula_38 : decode cX1_formula 38 = .ok (.getfield 13, 3) := by decide +kernel
theorem dX1_formula_41 : decode cX1_formula 41 = .ok (.iload_n 1, 1) := by decide +kernel
theorem dX1_formula_42 : decode cX1_formula 42 = .ok (.iaload, 1) := by decide +kernel
theorem dX1_formula_43 : decode cX1_formula 43 = .ok (.iconst 1, 1) := by decide +kernel
theorem dX1_formula_44 : decode cX1_formula 44 = .ok (.if_icmp .ne 7, 3) := by decide +kernel
theorem dX1_formula_47 : decode cX1_formula 47 = .ok (.iload_n 2, 1) := by decide +kernel
theorem dX1_formula_48 : decode cX1_formula 48 = .ok (.iload_n 3, 1) := by decide +kernel
theorem dX1_formula_49 : decode cX1_formula 49 = .ok (.ior, 1) := by decide +kernel
theorem dX1_formula_50 : decode cX1_formula 50 = .ok (.ireturn, 1) := by decide +kernel
theorem dX1_formula_51 : decode cX1_formula 51 = .ok (.aload_n 0, 1) := by decide +kernel
theorem dX1_formula_52 : decode cX1_formula 52 = .ok (.getfield 13, 3) := by decide +kernel
theorem dX1_formula_55 : decode cX1_formula 55 = .ok (.iload_n 1, 1) := by decide +kernel
theorem dX1_formula_56 : decode cX1_formula 56 = .ok (.iaload, 1) := by decide +kernel
theorem dX1_formula_57 : decode cX1_formula 57 = .ok (.iconst 2, 1) := by decide +kernel
theorem dX1_formula_58 : decode cX1_formula 58 = .ok (.if_icmp .ne 7, 3) := by decide +kernel
theorem dX1_formula_61 : decode cX1_formula 61 = .ok (.iload_n 2, 1) := by decide +kernel
theorem dX1_formula_62 : decode cX1_formula 62 = .ok (.iload_n 3, 1) := by decide +kernel
theorem dX1_formula_63 : decode cX1_formula 63 = .ok (.ixor, 1) := by decide +kernel
theorem dX1_formula_64 : decode cX1_formula 64 = .ok (.ireturn, 1) := by decide +kernel
theorem dX1_formula_65 : decode cX1_formula 65 = .ok (.aload_n 0, 1) := by decide +kernel
theorem dX1_formula_66 : decode cX1_formula 66 = .ok (.getfield 13, 3) := by decide +kernel
theorem dX1_formula_69 : decode cX1_formula 69 = .ok (.iload_n 1, 1) := by decide +kernel
theorem dX1_formula_70 : decode cX1_formula 70 = .ok (.iaload, 1) := by decide +kernel
theorem dX1_formula_71 : decode cX1_formula 71 = .ok (.iconst 3, 1) := by decide +kernel
theorem dX1_formula_72 : decode cX1_formula 72 = .ok (.if_icmp .ne 10, 3) := by decide +kernel
theorem dX1_formula_75 : decode cX1_formula 75 = .ok (.iload_n 2, 1) := by decide +kernel
theorem dX1_formula_76 : decode cX1_formula 76 = .ok (.iload_n 3, 1) := by decide +kernel
theorem dX1_formula_77 : decode cX1_formula 77 = .ok (.iadd, 1) := by decide +kernel
theorem dX1_formula_78 : decode cX1_formula 78 = .ok (.bipush 15, 2) := by decide +kernel
theorem dX1_formula_80 : decode cX1_formula 80 = .ok (.iand, 1) := by decide +kernel
theorem dX1_formula_81 : decode cX1_formula 81 = .ok (.ireturn, 1) := by decide +kernel
theorem dX1_formula_82 : decode cX1_formula 82 = .ok (.aload_n 0, 1) := by decide +kernel
theorem dX1_formula_83 : decode cX1_formula 83 = .ok (.getfield 13, 3) := by decide +kernel
theorem dX1_formula_86 : decode cX1_formula 86 = .ok (.iload_n 1, 1) := by decide +kernel
theorem dX1_formula_87 : decode cX1_formula 87 = .ok (.iaload, 1) := by decide +kernel
theorem dX1_formula_88 : decode cX1_formula 88 = .ok (.iconst 4, 1) := by decide +kernel
theorem dX1_formula_89 : decode cX1_formula 89 = .ok (.if_icmp .ne 10, 3) := by decide +kernel
theorem dX1_formula_92 : decode cX1_formula 92 = .ok (.iload_n 2, 1) := by decide +kernel
theorem dX1_formula_93 : decode cX1_formula 93 = .ok (.iload_n 3, 1) := by decide +kernel
theorem dX1_formula_94 : decode cX1_formula 94 = .ok (.isub, 1) := by decide +kernel
theorem dX1_formula_95 : decode cX1_formula 95 = .ok (.bipush 15, 2) := by decide +kernel
theorem dX1_formula_97 : decode cX1_formula 97 = .ok (.iand, 1) := by decide +kernel
theorem dX1_formula_98 : decode cX1_formula 98 = .ok (.ireturn, 1) := by decide +kernel
theorem dX1_formula_99 : decode cX1_formula 99 = .ok (.aload_n 0, 1) := by decide +kernel
theorem dX1_formula_100 : decode cX1_formula 100 = .ok (.getfield 13, 3) := by decide +kernel
theorem dX1_formula_103 : decode cX1_formula 103 = .ok (.iload_n 1, 1) := by decide +kernel
theorem dX1_formula_104 : decode cX1_formula 104 = .ok (.iaload, 1) := by decide +kernel
theorem dX1_formula_105 : decode cX1_formula 105 = .ok (.iconst 5, 1) := by decide +kernel
theorem dX1_formula_106 : decode cX1_formula 106 = .ok (.if_icmp .ne 14, 3) := by decide +kernel
theorem dX1_formula_109 : decode cX1_formula 109 = .ok (.iload_n 2, 1) := by decide +kernel
theorem dX1_formula_110 : decode cX1_formula 110 = .ok (.iload_n 3, 1) := by decide +kernel
theorem dX1_formula_111 : decode cX1_formula 111 = .ok (.if_icmp .ge 7, 3) := by decide +kernel
theorem dX1_formula_114 : decode cX1_formula 114 = .ok (.iconst 1, 1) := by decide +kernel
theorem dX1_formula_115 : decode cX1_formula 115 = .ok (.goto 4, 3) := by decide +kernel
theorem dX1_formula_118 : decode cX1_formula 118 = .ok (.iconst 0, 1) := by decide +kernel
theorem dX1_formula_119 : decode cX1_formula 119 = .ok (.ireturn, 1) := by decide +kernel
theorem dX1_formula_120 : decode cX1_formula 120 = .ok (.aload_n 0, 1) := by decide +kernel
theorem dX1_formula_121 : decode cX1_formula 121 = .ok (.getfield 13, 3) := by decide +kernel
theorem dX1_formula_124 : decode cX1_formula 124 = .ok (.iload_n 1, 1) := by decide +kernel
theorem dX1_formula_125 : decode cX1_formula 125 = .ok (.iaload, 1) := by decide +kernel
theorem dX1_formula_126 : decode cX1_formula 126 = .ok (.bipush 6, 2) := by decide +kernel
theorem dX1_formula_128 : decode cX1_formula 128 = .ok (.if_icmp .ne 5, 3) := by decide +kernel
theorem dX1_formula_131 : decode cX1_formula 131 = .ok (.iload_n 2, 1) := by decide +kernel
theorem dX1_formula_132 : decode cX1_formula 132 = .ok (.ireturn, 1) := by decide +kernel
theorem dX1_formula_133 : decode cX1_formula 133 = .ok (.aload_n 0, 1) := by decide +kernel
theorem dX1_formula_134 : decode cX1_formula 134 = .ok (.getfield 13, 3) := by decide +kernel
theorem dX1_formula_137 : decode cX1_formula 137 = .ok (.iload_n 1, 1) := by decide +kernel
theorem dX1_formula_138 : decode cX1_formula 138 = .ok (.iaload, 1) := by decide +kernel
theorem dX1_formula_139 : decode cX1_formula 139 = .ok (.bipush 7, 2) := by decide +kernel
theorem dX1_formula_141 : decode cX1_formula 141 = .ok (.if_icmp .ne 8, 3) := by decide +kernel
theorem dX1_formula_144 : decode cX1_formula 144 = .ok (.bipush 15, 2) := by decide +kernel
theorem dX1_formula_146 : decode cX1_formula 146 = .ok (.iload_n 2, 1) := by decide +kernel
theorem dX1_formula_147 : decode cX1_formula 147 = .ok (.isub, 1) := by decide +kernel
theorem dX1_formula_148 : decode cX1_formula 148 = .ok (.ireturn, 1) := by decide +kernel
theorem dX1_formula_149 : decode cX1_formula 149 = .ok (.iload_n 2, 1) := by decide +kernel
theorem dX1_formula_150 : decode cX1_formula 150 = .ok (.ifCond .ne 7, 3) := by decide +kernel
theorem dX1_formula_153 : decode cX1_formula 153 = .ok (.iload_n 3, 1) := by decide +kernel
theorem dX1_formula_154 : decode cX1_formula 154 = .ok (.goto 7, 3) := by decide +kernel
theorem dX1_formula_157 : decode cX1_formula 157 = .ok (.bipush 15, 2) := by decide +kernel
theorem dX1_formula_159 : decode cX1_formula 159 = .ok (.iload_n 3, 1) := by decide +kernel
theorem dX1_formula_160 : decode cX1_formula 160 = .ok (.isub, 1) := by decide +kernel
theorem dX1_formula_161 : decode cX1_formula 161 = .ok (.ireturn, 1) := by decide +kernel
theorem dX1_register_0 : decode cX1_register 0 = .ok (.iload_n 2, 1) := by decide +kernel
theorem dX1_register_1 : decode cX1_register 1 = .ok (.ifCond .lt 38, 3) := by decide +kernel
theorem dX1_register_4 : decode cX1_register 4 = .ok (.iload_n 2, 1) := by decide +kernel
theorem dX1_register_5 : decode cX1_register 5 = .ok (.bipush 8, 2) := by decide +kernel
theorem dX1_register_7 : decode cX1_register 7 = .ok (.if_icmp .gt 32, 3) := by decide +kernel
theorem dX1_register_10 : decode cX1_register 10 = .ok (.aload_n 0, 1) := by decide +kernel
theorem dX1_register_11 : decode cX1_register 11 = .ok (.iload_n 1, 1) := by decide +kernel
theorem dX1_register_12 : decode cX1_register 12 = .ok (.invokevirtual 41, 3) := by decide +kernel
theorem dX1_register_15 : decode cX1_register 15 = .ok (.ifCond .eq 24, 3) := by decide +kernel
theorem dX1_register_18 : decode cX1_register 18 = .ok (.aload_n 0, 1) := by decide +kernel
theorem dX1_register_19 : decode cX1_register 19 = .ok (.iload_n 3, 1) := by decide +kernel
theorem dX1_register_20 : decode cX1_register 20 = .ok (.invokevirtual 41, 3) := by decide +kernel
theorem dX1_register_23 : decode cX1_register 23 = .ok (.ifCond .eq 16, 3) := by decide +kernel
theorem dX1_register_26 : decode cX1_register 26 = .ok (.iload 4, 2) := by decide +kernel
theorem dX1_register_28 : decode cX1_register 28 = .ok (.ifCond .lt 11, 3) := by decide +kernel
theorem dX1_register_31 : decode cX1_register 31 = .ok (.iload 4, 2) := by decide +kernel
theorem dX1_register_33 : decode cX1_register 33 = .ok (.sipush 143, 3) := by decide +kernel
theorem dX1_register_36 : decode cX1_register 36 = .ok (.if_icmp .le 5, 3) := by decide +kernel
theorem dX1_register_39 : decode cX1_register 39 = .ok (.iconst (-1), 1) := by decide +kernel
theorem dX1_register_40 : decode cX1_register 40 = .ok (.ireturn, 1) := by decide +kernel
theorem dX1_register_41 : decode cX1_register 41 = .ok (.iload 4, 2) := by decide +kernel
theorem dX1_register_43 : decode cX1_register 43 = .ok (.bipush 12, 2) := by decide +kernel
theorem dX1_register_45 : decode cX1_register 45 = .ok (.idiv, 1) := by decide +kernel
theorem dX1_register_46 : decode cX1_register 46 = .ok (.istore 5, 2) := by decide +kernel
theorem dX1_register_48 : decode cX1_register 48 = .ok (.aload_n 0, 1) := by decide +kernel
theorem dX1_register_49 : decode cX1_register 49 = .ok (.getfield 7, 3) := by decide +kernel
theorem dX1_register_52 : decode cX1_register 52 = .ok (.iload 5, 2) := by decide +kernel
theorem dX1_register_54 : decode cX1_register 54 = .ok (.iaload, 1) := by decide +kernel
theorem dX1_register_55 : decode cX1_register 55 = .ok (.ifCond .ne 17, 3) := by decide +kernel
theorem dX1_register_58 : decode cX1_register 58 = .ok (.iload 5, 2) := by decide +kernel
theorem dX1_register_60 : decode cX1_register 60 = .ok (.iload_n 1, 1) := by decide +kernel
theorem dX1_register_61 : decode cX1_register 61 = .ok (.if_icmp .eq 11, 3) := by decide +kernel
theorem dX1_register_64 : decode cX1_register 64 = .ok (.aload_n 0, 1) := by decide +kernel
theorem dX1_register_65 : decode cX1_register 65 = .ok (.iload_n 1, 1) := by decide +kernel
theorem dX1_register_66 : decode cX1_register 66 = .ok (.invokevirtual 45, 3) := by decide +kernel
theorem dX1_register_69 : decode cX1_register 69 = .ok (.ifCond .eq 6, 3) := by decide +kernel
theorem dX1_register_72 : decode cX1_register 72 = .ok (.bipush (-3), 2) := by decide +kernel
theorem dX1_register_74 : decode cX1_register 74 = .ok (.ireturn, 1) := by decide +kernel
theorem dX1_register_75 : decode cX1_register 75 = .ok (.aload_n 0, 1) := by decide +kernel
theorem dX1_register_76 : decode cX1_register 76 = .ok (.iload_n 1, 1) := by decide +kernel
theorem dX1_register_77 : decode cX1_register 77 = .ok (.iconst 2, 1) := by decide +kernel
theorem dX1_register_78 : decode cX1_register 78 = .ok (.iload_n 2, 1) := by decide +kernel
theorem dX1_register_79 : decode cX1_register 79 = .ok (.iload_n 3, 1) := by decide +kernel
theorem dX1_register_80 : decode cX1_register 80 = .ok (.iload 4, 2) := by decide +kernel
theorem dX1_register_82 : decode cX1_register 82 = .ok (.bipush 12, 2) := by decide +kernel
theorem dX1_register_84 : decode cX1_register 84 = .ok (.irem, 1) := by decide +kernel
theorem dX1_register_85 : decode cX1_register 85 = .ok (.invokevirtual 48, 3) := by decide +kernel
theorem dX1_register_88 : decode cX1_register 88 = .ok (.aload_n 0, 1) := by decide +kernel
theorem dX1_register_89 : decode cX1_register 89 = .ok (.getfield 22, 3) := by decide +kernel
theorem dX1_register_92 : decode cX1_register 92 = .ok (.iload_n 1, 1) := by decide +kernel
theorem dX1_register_93 : decode cX1_register 93 = .ok (.iload 5, 2) := by decide +kernel
theorem dX1_register_95 : decode cX1_register 95 = .ok (.iastore, 1) := by decide +kernel
theorem dX1_register_96 : decode cX1_register 96 = .ok (.aload_n 0, 1) := by decide +kernel
theorem dX1_register_97 : decode cX1_register 97 = .ok (.invokevirtual 56, 3) := by decide +kernel
theorem dX1_register_100 : decode cX1_register 100 = .ok (.aload_n 0, 1) := by decide +kernel
theorem dX1_register_101 : decode cX1_register 101 = .ok (.getfield 25, 3) := by decide +kernel
theorem dX1_register_104 : decode cX1_register 104 = .ok (.iload_n 1, 1) := by decide +kernel
theorem dX1_register_105 : decode cX1_register 105 = .ok (.iaload, 1) := by decide +kernel
theorem dX1_register_106 : decode cX1_register 106 = .ok (.ireturn, 1) := by decide +kernel
theorem dX1_free_0 : decode cX1_free 0 = .ok (.aload_n 0, 1) := by decide +kernel
theorem dX1_free_1 : decode cX1_free 1 = .ok (.iload_n 1, 1) := by decide +kernel
theorem dX1_free_2 : decode cX1_free 2 = .ok (.invokevirtual 41, 3) := by decide +kernel
theorem dX1_free_5 : decode cX1_free 5 = .ok (.ifCond .ne 5, 3) := by decide +kernel
theorem dX1_free_8 : decode cX1_free 8 = .ok (.iconst (-1), 1) := by decide +kernel
theorem dX1_free_9 : decode cX1_free 9 = .ok (.ireturn, 1) := by decide +kernel
theorem dX1_free_10 : decode cX1_free 10 = .ok (.aload_n 0, 1) := by decide +kernel
theorem dX1_free_11 : decode cX1_free 11 = .ok (.getfield 7, 3) := by decide +kernel
theorem dX1_free_14 : decode cX1_free 14 = .ok (.iload_n 1, 1) := by decide +kernel
theorem dX1_free_15 : decode cX1_free 15 = .ok (.iconst 0, 1) := by decide +kernel
theorem dX1_free_16 : decode cX1_free 16 = .ok (.iastore, 1) := by decide +kernel
theorem dX1_free_17 : decode cX1_free 17 = .ok (.aload_n 0, 1) := by decide +kernel
theorem dX1_free_18 : decode cX1_free 18 = .ok (.invokevirtual 56, 3) := by decide +kernel
theorem dX1_free_21 : decode cX1_free 21 = .ok (.aload_n 0, 1) := by decide +kernel
theorem dX1_free_22 : decode cX1_free 22 = .ok (.getfield 25, 3) := by decide +kernel
theorem dX1_free_25 : decode cX1_free 25 = .ok (.iload_n 1, 1) := by decide +kernel
theorem dX1_free_26 : decode cX1_free 26 = .ok (.iaload, 1) := by decide +kernel
theorem dX1_free_27 : decode cX1_free 27 = .ok (.ireturn, 1) := by decide +kernel
theorem dX1_set_0 : decode cX1_set 0 = .ok (.aload_n 0, 1) := by decide +kernel
theorem dX1_set_1 : decode cX1_set 1 = .ok (.iload_n 1, 1) := by decide +kernel
theorem dX1_set_2 : decode cX1_set 2 = .ok (.iload_n 2, 1) := by decide +kernel
theorem dX1_set_3 : decode cX1_set 3 = .ok (.invokevirtual 59, 3) := by decide +kernel
theorem dX1_set_6 : decode cX1_set 6 = .ok (.istore_n 3, 1) := by decide +kernel
theorem dX1_set_7 : decode cX1_set 7 = .ok (.iload_n 3, 1) := by decide +kernel
theorem dX1_set_8 : decode cX1_set 8 = .ok (.ifCond .ge 5, 3) := by decide +kernel
theorem dX1_set_11 : decode cX1_set 11 = .ok (.iload_n 3, 1) := by decide +kernel
theorem dX1_set_12 : decode cX1_set 12 = .ok (.ireturn, 1) := by decide +kernel
theorem dX1_set_13 : decode cX1_set 13 = .ok (.aload_n 0, 1) := by decide +kernel
theorem dX1_set_14 : decode cX1_set 14 = .ok (.iload_n 1, 1) := by decide +kernel
theorem dX1_set_15 : decode cX1_set 15 = .ok (.iload_n 2, 1) := by decide +kernel
theorem dX1_set_16 : decode cX1_set 16 = .ok (.invokevirtual 63, 3) := by decide +kernel
theorem dX1_set_19 : decode cX1_set 19 = .ok (.pop, 1) := by decide +kernel
theorem dX1_set_20 : decode cX1_set 20 = .ok (.iconst 0, 1) := by decide +kernel
theorem dX1_set_21 : decode cX1_set 21 = .ok (.istore 4, 2) := by decide +kernel
theorem dX1_set_23 : decode cX1_set 23 = .ok (.iconst 0, 1) := by decide +kernel
theorem dX1_set_24 : decode cX1_set 24 = .ok (.istore 5, 2) := by decide +kernel
theorem dX1_set_26 : decode cX1_set 26 = .ok (.iload 5, 2) := by decide +kernel
theorem dX1_set_28 : decode cX1_set 28 = .ok (.bipush 12, 2) := by decide +kernel
theorem dX1_set_30 : decode cX1_set 30 = .ok (.if_icmp .ge 29, 3) := by decide +kernel
theorem dX1_set_33 : decode cX1_set 33 = .ok (.aload_n 0, 1) := by decide +kernel
theorem dX1_set_34 : decode cX1_set 34 = .ok (.getfield 25, 3) := by decide +kernel
theorem dX1_set_37 : decode cX1_set 37 = .ok (.iload 5, 2) := by decide +kernel
theorem dX1_set_39 : decode cX1_set 39 = .ok (.iaload, 1) := by decide +kernel
theorem dX1_set_40 : decode cX1_set 40 = .ok (.aload_n 0, 1) := by decide +kernel
theorem dX1_set_41 : decode cX1_set 41 = .ok (.getfield 28, 3) := by decide +kernel
theorem dX1_set_44 : decode cX1_set 44 = .ok (.iload 5, 2) := by decide +kernel
theorem dX1_set_46 : decode cX1_set 46 = .ok (.iaload, 1) := by decide +kernel
theorem dX1_set_47 : decode cX1_set 47 = .ok (.if_icmp .eq 6, 3) := by decide +kernel
theorem dX1_set_50 : decode cX1_set 50 = .ok (.iinc 4 1, 3) := by decide +kernel
theorem dX1_set_53 : decode cX1_set 53 = .ok (.iinc 5 1, 3) := by decide +kernel
theorem dX1_set_56 : decode cX1_set 56 = .ok (.goto (-30), 3) := by decide +kernel
theorem dX1_set_59 : decode cX1_set 59 = .ok (.iload 4, 2) := by decide +kernel
theorem dX1_set_61 : decode cX1_set 61 = .ok (.ireturn, 1) := by decide +kernel
theorem dX1_status_0 : decode cX1_status 0 = .ok (.aload_n 0, 1) := by decide +kernel
theorem dX1_status_1 : decode cX1_status 1 = .ok (.iload_n 1, 1) := by decide +kernel
theorem dX1_status_2 : decode cX1_status 2 = .ok (.invokevirtual 41, 3) := by decide +kernel
theorem dX1_status_5 : decode cX1_status 5 = .ok (.ifCond .eq 13, 3) := by decide +kernel
theorem dX1_status_8 : decode cX1_status 8 = .ok (.iload_n 2, 1) := by decide +kernel
theorem dX1_status_9 : decode cX1_status 9 = .ok (.ifCond .lt 9, 3) := by decide +kernel
theorem dX1_status_12 : decode cX1_status 12 = .ok (.iload_n 2, 1) := by decide +kernel
theorem dX1_status_13 : decode cX1_status 13 = .ok (.bipush 15, 2) := by decide +kernel
theorem dX1_status_15 : decode cX1_status 15 = .ok (.if_icmp .le 5, 3) := by decide +kernel
theorem dX1_status_18 : decode cX1_status 18 = .ok (.iconst (-1), 1) := by decide +kernel
theorem dX1_status_19 : decode cX1_status 19 = .ok (.ireturn, 1) := by decide +kernel
theorem dX1_status_20 : decode cX1_status 20 = .ok (.aload_n 0, 1) := by decide +kernel
theorem dX1_status_21 : decode cX1_status 21 = .ok (.getfield 7, 3) := by decide +kernel
theorem dX1_status_24 : decode cX1_status 24 = .ok (.iload_n 1, 1) := by decide +kernel
theorem dX1_status_25 : decode cX1_status 25 = .ok (.iaload, 1) := by decide +kernel
theorem dX1_status_26 : decode cX1_status 26 = .ok (.ifCond .ne 7, 3) := by decide +kernel
theorem dX1_status_29 : decode cX1_status 29 = .ok (.iconst 0, 1) := by decide +kernel
theorem dX1_status_30 : decode cX1_status 30 = .ok (.goto 5, 3) := by decide +kernel
theorem dX1_status_33 : decode cX1_status 33 = .ok (.bipush (-3), 2) := by decide +kernel
theorem dX1_status_35 : decode cX1_status 35 = .ok (.ireturn, 1) := by decide +kernel
theorem dX1_change_0 : decode cX1_change 0 = .ok (.aload_n 0, 1) := by decide +kernel
theorem dX1_change_1 : decode cX1_change 1 = .ok (.getfield 25, 3) := by decide +kernel
theorem dX1_change_4 : decode cX1_change 4 = .ok (.iload_n 1, 1) := by decide +kernel
theorem dX1_change_5 : decode cX1_change 5 = .ok (.iaload, 1) := by decide +kernel
theorem dX1_change_6 : decode cX1_change 6 = .ok (.iconst 2, 1) := by decide +kernel
theorem dX1_change_7 : decode cX1_change 7 = .ok (.irem, 1) := by decide +kernel
theorem dX1_change_8 : decode cX1_change 8 = .ok (.ifCond .ne 14, 3) := by decide +kernel
theorem dX1_change_11 : decode cX1_change 11 = .ok (.iload_n 2, 1) := by decide +kernel
theorem dX1_change_12 : decode cX1_change 12 = .ok (.iconst 2, 1) := by decide +kernel
theorem dX1_change_13 : decode cX1_change 13 = .ok (.irem, 1) := by decide +kernel
theorem dX1_change_14 : decode cX1_change 14 = .ok (.iconst 1, 1) := by decide +kernel
theorem dX1_change_15 : decode cX1_change 15 = .ok (.if_icmp .ne 7, 3) := by decide +kernel
theorem dX1_change_18 : decode cX1_change 18 = .ok (.iconst 1, 1) := by decide +kernel
theorem dX1_change_19 : decode cX1_change 19 = .ok (.goto 4, 3) := by decide +kernel
theorem dX1_change_22 : decode cX1_change 22 = .ok (.iconst 0, 1) := by decide +kernel
theorem dX1_change_23 : decode cX1_change 23 = .ok (.istore_n 3, 1) := by decide +kernel
theorem dX1_change_24 : decode cX1_change 24 = .ok (.iconst 0, 1) := by decide +kernel
theorem dX1_change_25 : decode cX1_change 25 = .ok (.istore 4, 2) := by decide +kernel
theorem dX1_change_27 : decode cX1_change 27 = .ok (.iconst 0, 1) := by decide +kernel
theorem dX1_change_28 : decode cX1_change 28 = .ok (.istore 5, 2) := by decide +kernel
theorem dX1_change_30 : decode cX1_change 30 = .ok (.iload 5, 2) := by decide +kernel
theorem dX1_change_32 : decode cX1_change 32 = .ok (.bipush 12, 2) := by decide +kernel
theorem dX1_change_34 : decode cX1_change 34 = .ok (.if_icmp .ge 23, 3) := by decide +kernel
theorem dX1_change_37 : decode cX1_change 37 = .ok (.aload_n 0, 1) := by decide +kernel
theorem dX1_change_38 : decode cX1_change 38 = .ok (.getfield 28, 3) := by decide +kernel
theorem dX1_change_41 : decode cX1_change 41 = .ok (.iload 5, 2) := by decide +kernel
theorem dX1_change_43 : decode cX1_change 43 = .ok (.aload_n 0, 1) := by decide +kernel
theorem dX1_change_44 : decode cX1_change 44 = .ok (.getfield 25, 3) := by decide +kernel
theorem dX1_change_47 : decode cX1_change 47 = .ok (.iload 5, 2) := by decide +kernel
theorem dX1_change_49 : decode cX1_change 49 = .ok (.iaload, 1) := by decide +kernel
theorem dX1_change_50 : decode cX1_change 50 = .ok (.iastore, 1) := by decide +kernel
theorem dX1_change_51 : decode cX1_change 51 = .ok (.iinc 5 1, 3) := by decide +kernel
theorem dX1_change_54 : decode cX1_change 54 = .ok (.goto (-24), 3) := by decide +kernel
theorem dX1_change_57 : decode cX1_change 57 = .ok (.iconst 0, 1) := by decide +kernel
theorem dX1_change_58 : decode cX1_change 58 = .ok (.istore 5, 2) := by decide +kernel
theorem dX1_change_60 : decode cX1_change 60 = .ok (.iload 5, 2) := by decide +kernel
theorem dX1_change_62 : decode cX1_change 62 = .ok (.bipush 12, 2) := by decide +kernel
theorem dX1_change_64 : decode cX1_change 64 = .ok (.if_icmp .ge 22, 3) := by decide +kernel
theorem dX1_change_67 : decode cX1_change 67 = .ok (.aload_n 0, 1) := by decide +kernel
theorem dX1_change_68 : decode cX1_change 68 = .ok (.getfield 31, 3) := by decide +kernel
theorem dX1_change_71 : decode cX1_change 71 = .ok (.iload 5, 2) := by decide +kernel
theorem dX1_change_73 : decode cX1_change 73 = .ok (.aload_n 0, 1) := by decide +kernel
theorem dX1_change_74 : decode cX1_change 74 = .ok (.iload 5, 2) := by decide +kernel
theorem dX1_change_76 : decode cX1_change 76 = .ok (.invokevirtual 34, 3) := by decide +kernel
theorem dX1_change_79 : decode cX1_change 79 = .ok (.iastore, 1) := by decide +kernel
theorem dX1_change_80 : decode cX1_change 80 = .ok (.iinc 5 1, 3) := by decide +kernel
theorem dX1_change_83 : decode cX1_change 83 = .ok (.goto (-23), 3) := by decide +kernel
theorem dX1_change_86 : decode cX1_change 86 = .ok (.iconst 0, 1) := by decide +kernel
theorem dX1_change_87 : decode cX1_change 87 = .ok (.istore 5, 2) := by decide +kernel
theorem dX1_change_89 : decode cX1_change 89 = .ok (.iload 5, 2) := by decide +kernel
theorem dX1_change_91 : decode cX1_change 91 = .ok (.bipush 12, 2) := by decide +kernel
theorem dX1_change_93 : decode cX1_change 93 = .ok (.if_icmp .ge 69, 3) := by decide +kernel
theorem dX1_change_96 : decode cX1_change 96 = .ok (.iload_n 3, 1) := by decide +kernel
theorem dX1_change_97 : decode cX1_change 97 = .ok (.ifCond .eq 59, 3) := by decide +kernel
theorem dX1_change_100 : decode cX1_change 100 = .ok (.aload_n 0, 1) := by decide +kernel
theorem dX1_change_101 : decode cX1_change 101 = .ok (.getfield 7, 3) := by decide +kernel
theorem dX1_change_104 : decode cX1_change 104 = .ok (.iload 5, 2) := by decide +kernel
theorem dX1_change_106 : decode cX1_change 106 = .ok (.iaload, 1) := by decide +kernel
theorem dX1_change_107 : decode cX1_change 107 = .ok (.iconst 2, 1) := by decide +kernel
theorem dX1_change_108 : decode cX1_change 108 = .ok (.if_icmp .ne 48, 3) := by decide +kernel
theorem dX1_change_111 : decode cX1_change 111 = .ok (.aload_n 0, 1) := by decide +kernel
theorem dX1_change_112 : decode cX1_change 112 = .ok (.getfield 22, 3) := by decide +kernel
theorem dX1_change_115 : decode cX1_change 115 = .ok (.iload 5, 2) := by decide +kernel
theorem dX1_change_117 : decode cX1_change 117 = .ok (.iaload, 1) := by decide +kernel
theorem dX1_change_118 : decode cX1_change 118 = .ok (.iload_n 1, 1) := by decide +kernel
theorem dX1_change_119 : decode cX1_change 119 = .ok (.if_icmp .ne 37, 3) := by decide +kernel
theorem dX1_change_122 : decode cX1_change 122 = .ok (.aload_n 0, 1) := by decide +kernel
theorem dX1_change_123 : decode cX1_change 123 = .ok (.getfield 25, 3) := by decide +kernel
theorem dX1_change_126 : decode cX1_change 126 = .ok (.iload 5, 2) := by decide +kernel
theorem dX1_change_128 : decode cX1_change 128 = .ok (.iaload, 1) := by decide +kernel
theorem dX1_change_129 : decode cX1_change 129 = .ok (.aload_n 0, 1) := by decide +kernel
theorem dX1_change_130 : decode cX1_change 130 = .ok (.getfield 31, 3) := by decide +kernel
theorem dX1_change_133 : decode cX1_change 133 = .ok (.iload 5, 2) := by decide +kernel
end
section
/-! decode rows -/
set_option maxRecDepth 100000
theorem dX1_change_135 : decode cX1_change 135 = .ok (.iaload, 1) := by decide +kernel
theorem dX1_change_136 : decode cX1_change 136 = .ok (.if_icmp .eq 6, 3) := by decide +kernel
theorem dX1_change_139 : decode cX1_change 139 = .ok (.iinc 4 1, 3) := by decide +kernel
theorem dX1_change_142 : decode cX1_change 142 = .ok (.aload_n 0, 1) := by decide +kernel
theorem dX1_change_143 : decode cX1_change 143 = .ok (.getfield 25, 3) := by decide +kernel
theorem dX1_change_146 : decode cX1_change 146 = .ok (.iload 5, 2) := by decide +kernel
theorem dX1_change_148 : decode cX1_change 148 = .ok (.aload_n 0, 1) := by decide +kernel
theorem dX1_change_149 : decode cX1_change 149 = .ok (.getfield 31, 3) := by decide +kernel
theorem dX1_change_152 : decode cX1_change 152 = .ok (.iload 5, 2) := by decide +kernel
theorem dX1_change_154 : decode cX1_change 154 = .ok (.iaload, 1) := by decide +kernel
theorem dX1_change_155 : decode cX1_change 155 = .ok (.iastore, 1) := by decide +kernel
theorem dX1_change_156 : decode cX1_change 156 = .ok (.iinc 5 1, 3) := by decide +kernel
theorem dX1_change_159 : decode cX1_change 159 = .ok (.goto (-70), 3) := by decide +kernel
theorem dX1_change_162 : decode cX1_change 162 = .ok (.aload_n 0, 1) := by decide +kernel
theorem dX1_change_163 : decode cX1_change 163 = .ok (.getfield 25, 3) := by decide +kernel
theorem dX1_change_166 : decode cX1_change 166 = .ok (.iload_n 1, 1) := by decide +kernel
theorem dX1_change_167 : decode cX1_change 167 = .ok (.iload_n 2, 1) := by decide +kernel
theorem dX1_change_168 : decode cX1_change 168 = .ok (.iastore, 1) := by decide +kernel
theorem dX1_change_169 : decode cX1_change 169 = .ok (.aload_n 0, 1) := by decide +kernel
theorem dX1_change_170 : decode cX1_change 170 = .ok (.invokevirtual 56, 3) := by decide +kernel
theorem dX1_change_173 : decode cX1_change 173 = .ok (.iload 4, 2) := by decide +kernel
theorem dX1_change_175 : decode cX1_change 175 = .ok (.ireturn, 1) := by decide +kernel
theorem dX1_pulse_0 : decode cX1_pulse 0 = .ok (.aload_n 0, 1) := by decide +kernel
theorem dX1_pulse_1 : decode cX1_pulse 1 = .ok (.iload_n 1, 1) := by decide +kernel
theorem dX1_pulse_2 : decode cX1_pulse 2 = .ok (.iload_n 2, 1) := by decide +kernel
theorem dX1_pulse_3 : decode cX1_pulse 3 = .ok (.invokevirtual 59, 3) := by decide +kernel
theorem dX1_pulse_6 : decode cX1_pulse 6 = .ok (.istore 4, 2) := by decide +kernel
theorem dX1_pulse_8 : decode cX1_pulse 8 = .ok (.iload 4, 2) := by decide +kernel
theorem dX1_pulse_10 : decode cX1_pulse 10 = .ok (.ifCond .ge 6, 3) := by decide +kernel
theorem dX1_pulse_13 : decode cX1_pulse 13 = .ok (.iload 4, 2) := by decide +kernel
theorem dX1_pulse_15 : decode cX1_pulse 15 = .ok (.ireturn, 1) := by decide +kernel
theorem dX1_pulse_16 : decode cX1_pulse 16 = .ok (.iload_n 3, 1) := by decide +kernel
theorem dX1_pulse_17 : decode cX1_pulse 17 = .ok (.ifCond .ge 7, 3) := by decide +kernel
theorem dX1_pulse_20 : decode cX1_pulse 20 = .ok (.iconst 0, 1) := by decide +kernel
theorem dX1_pulse_21 : decode cX1_pulse 21 = .ok (.goto 15, 3) := by decide +kernel
theorem dX1_pulse_24 : decode cX1_pulse 24 = .ok (.iload_n 3, 1) := by decide +kernel
theorem dX1_pulse_25 : decode cX1_pulse 25 = .ok (.bipush 16, 2) := by decide +kernel
theorem dX1_pulse_27 : decode cX1_pulse 27 = .ok (.if_icmp .le 8, 3) := by decide +kernel
theorem dX1_pulse_30 : decode cX1_pulse 30 = .ok (.bipush 16, 2) := by decide +kernel
theorem dX1_pulse_32 : decode cX1_pulse 32 = .ok (.goto 4, 3) := by decide +kernel
theorem dX1_pulse_35 : decode cX1_pulse 35 = .ok (.iload_n 3, 1) := by decide +kernel
theorem dX1_pulse_36 : decode cX1_pulse 36 = .ok (.istore 5, 2) := by decide +kernel
theorem dX1_pulse_38 : decode cX1_pulse 38 = .ok (.aload_n 0, 1) := by decide +kernel
theorem dX1_pulse_39 : decode cX1_pulse 39 = .ok (.getfield 25, 3) := by decide +kernel
theorem dX1_pulse_42 : decode cX1_pulse 42 = .ok (.iload_n 1, 1) := by decide +kernel
theorem dX1_pulse_43 : decode cX1_pulse 43 = .ok (.iaload, 1) := by decide +kernel
theorem dX1_pulse_44 : decode cX1_pulse 44 = .ok (.istore 6, 2) := by decide +kernel
theorem dX1_pulse_46 : decode cX1_pulse 46 = .ok (.iconst 0, 1) := by decide +kernel
theorem dX1_pulse_47 : decode cX1_pulse 47 = .ok (.istore 7, 2) := by decide +kernel
theorem dX1_pulse_49 : decode cX1_pulse 49 = .ok (.iconst 0, 1) := by decide +kernel
theorem dX1_pulse_50 : decode cX1_pulse 50 = .ok (.istore 8, 2) := by decide +kernel
theorem dX1_pulse_52 : decode cX1_pulse 52 = .ok (.iload 8, 2) := by decide +kernel
theorem dX1_pulse_54 : decode cX1_pulse 54 = .ok (.iload 5, 2) := by decide +kernel
theorem dX1_pulse_56 : decode cX1_pulse 56 = .ok (.if_icmp .ge 32, 3) := by decide +kernel
theorem dX1_pulse_59 : decode cX1_pulse 59 = .ok (.iload 7, 2) := by decide +kernel
theorem dX1_pulse_61 : decode cX1_pulse 61 = .ok (.aload_n 0, 1) := by decide +kernel
theorem dX1_pulse_62 : decode cX1_pulse 62 = .ok (.iload_n 1, 1) := by decide +kernel
theorem dX1_pulse_63 : decode cX1_pulse 63 = .ok (.iload_n 2, 1) := by decide +kernel
theorem dX1_pulse_64 : decode cX1_pulse 64 = .ok (.invokevirtual 63, 3) := by decide +kernel
theorem dX1_pulse_67 : decode cX1_pulse 67 = .ok (.iadd, 1) := by decide +kernel
theorem dX1_pulse_68 : decode cX1_pulse 68 = .ok (.istore 7, 2) := by decide +kernel
theorem dX1_pulse_70 : decode cX1_pulse 70 = .ok (.iload 7, 2) := by decide +kernel
theorem dX1_pulse_72 : decode cX1_pulse 72 = .ok (.aload_n 0, 1) := by decide +kernel
theorem dX1_pulse_73 : decode cX1_pulse 73 = .ok (.iload_n 1, 1) := by decide +kernel
theorem dX1_pulse_74 : decode cX1_pulse 74 = .ok (.iload 6, 2) := by decide +kernel
theorem dX1_pulse_76 : decode cX1_pulse 76 = .ok (.invokevirtual 63, 3) := by decide +kernel
theorem dX1_pulse_79 : decode cX1_pulse 79 = .ok (.iadd, 1) := by decide +kernel
theorem dX1_pulse_80 : decode cX1_pulse 80 = .ok (.istore 7, 2) := by decide +kernel
theorem dX1_pulse_82 : decode cX1_pulse 82 = .ok (.iinc 8 1, 3) := by decide +kernel
theorem dX1_pulse_85 : decode cX1_pulse 85 = .ok (.goto (-33), 3) := by decide +kernel
theorem dX1_pulse_88 : decode cX1_pulse 88 = .ok (.iload 7, 2) := by decide +kernel
theorem dX1_pulse_90 : decode cX1_pulse 90 = .ok (.ireturn, 1) := by decide +kernel
theorem dX1_value_0 : decode cX1_value 0 = .ok (.aload_n 0, 1) := by decide +kernel
theorem dX1_value_1 : decode cX1_value 1 = .ok (.iload_n 1, 1) := by decide +kernel
theorem dX1_value_2 : decode cX1_value 2 = .ok (.invokevirtual 41, 3) := by decide +kernel
theorem dX1_value_5 : decode cX1_value 5 = .ok (.ifCond .eq 12, 3) := by decide +kernel
theorem dX1_value_8 : decode cX1_value 8 = .ok (.aload_n 0, 1) := by decide +kernel
theorem dX1_value_9 : decode cX1_value 9 = .ok (.getfield 25, 3) := by decide +kernel
theorem dX1_value_12 : decode cX1_value 12 = .ok (.iload_n 1, 1) := by decide +kernel
theorem dX1_value_13 : decode cX1_value 13 = .ok (.iaload, 1) := by decide +kernel
theorem dX1_value_14 : decode cX1_value 14 = .ok (.goto 4, 3) := by decide +kernel
theorem dX1_value_17 : decode cX1_value 17 = .ok (.iconst (-1), 1) := by decide +kernel
theorem dX1_value_18 : decode cX1_value 18 = .ok (.ireturn, 1) := by decide +kernel
theorem dX1_kind_0 : decode cX1_kind 0 = .ok (.aload_n 0, 1) := by decide +kernel
theorem dX1_kind_1 : decode cX1_kind 1 = .ok (.iload_n 1, 1) := by decide +kernel
theorem dX1_kind_2 : decode cX1_kind 2 = .ok (.invokevirtual 41, 3) := by decide +kernel
theorem dX1_kind_5 : decode cX1_kind 5 = .ok (.ifCond .eq 12, 3) := by decide +kernel
theorem dX1_kind_8 : decode cX1_kind 8 = .ok (.aload_n 0, 1) := by decide +kernel
theorem dX1_kind_9 : decode cX1_kind 9 = .ok (.getfield 7, 3) := by decide +kernel
theorem dX1_kind_12 : decode cX1_kind 12 = .ok (.iload_n 1, 1) := by decide +kernel
theorem dX1_kind_13 : decode cX1_kind 13 = .ok (.iaload, 1) := by decide +kernel
theorem dX1_kind_14 : decode cX1_kind 14 = .ok (.goto 4, 3) := by decide +kernel
theorem dX1_kind_17 : decode cX1_kind 17 = .ok (.iconst (-1), 1) := by decide +kernel
theorem dX1_kind_18 : decode cX1_kind 18 = .ok (.ireturn, 1) := by decide +kernel
theorem dX1_hanging_0 : decode cX1_hanging 0 = .ok (.aload_n 0, 1) := by decide +kernel
theorem dX1_hanging_1 : decode cX1_hanging 1 = .ok (.iload_n 1, 1) := by decide +kernel
theorem dX1_hanging_2 : decode cX1_hanging 2 = .ok (.invokevirtual 41, 3) := by decide +kernel
theorem dX1_hanging_5 : decode cX1_hanging 5 = .ok (.ifCond .ne 5, 3) := by decide +kernel
theorem dX1_hanging_8 : decode cX1_hanging 8 = .ok (.iconst (-1), 1) := by decide +kernel
theorem dX1_hanging_9 : decode cX1_hanging 9 = .ok (.ireturn, 1) := by decide +kernel
theorem dX1_hanging_10 : decode cX1_hanging 10 = .ok (.aload_n 0, 1) := by decide +kernel
theorem dX1_hanging_11 : decode cX1_hanging 11 = .ok (.invokevirtual 38, 3) := by decide +kernel
theorem dX1_hanging_14 : decode cX1_hanging 14 = .ok (.iconst 0, 1) := by decide +kernel
theorem dX1_hanging_15 : decode cX1_hanging 15 = .ok (.istore_n 2, 1) := by decide +kernel
theorem dX1_hanging_16 : decode cX1_hanging 16 = .ok (.iconst 0, 1) := by decide +kernel
theorem dX1_hanging_17 : decode cX1_hanging 17 = .ok (.istore_n 3, 1) := by decide +kernel
theorem dX1_hanging_18 : decode cX1_hanging 18 = .ok (.iload_n 3, 1) := by decide +kernel
theorem dX1_hanging_19 : decode cX1_hanging 19 = .ok (.bipush 12, 2) := by decide +kernel
theorem dX1_hanging_21 : decode cX1_hanging 21 = .ok (.if_icmp .ge 29, 3) := by decide +kernel
theorem dX1_hanging_24 : decode cX1_hanging 24 = .ok (.aload_n 0, 1) := by decide +kernel
theorem dX1_hanging_25 : decode cX1_hanging 25 = .ok (.getfield 31, 3) := by decide +kernel
theorem dX1_hanging_28 : decode cX1_hanging 28 = .ok (.iload_n 3, 1) := by decide +kernel
theorem dX1_hanging_29 : decode cX1_hanging 29 = .ok (.iaload, 1) := by decide +kernel
theorem dX1_hanging_30 : decode cX1_hanging 30 = .ok (.iload_n 1, 1) := by decide +kernel
theorem dX1_hanging_31 : decode cX1_hanging 31 = .ok (.ishr, 1) := by decide +kernel
theorem dX1_hanging_32 : decode cX1_hanging 32 = .ok (.iconst 1, 1) := by decide +kernel
theorem dX1_hanging_33 : decode cX1_hanging 33 = .ok (.iand, 1) := by decide +kernel
theorem dX1_hanging_34 : decode cX1_hanging 34 = .ok (.iconst 1, 1) := by decide +kernel
theorem dX1_hanging_35 : decode cX1_hanging 35 = .ok (.if_icmp .ne 9, 3) := by decide +kernel
theorem dX1_hanging_38 : decode cX1_hanging 38 = .ok (.iload_n 2, 1) := by decide +kernel
theorem dX1_hanging_39 : decode cX1_hanging 39 = .ok (.iconst 1, 1) := by decide +kernel
theorem dX1_hanging_40 : decode cX1_hanging 40 = .ok (.iload_n 3, 1) := by decide +kernel
theorem dX1_hanging_41 : decode cX1_hanging 41 = .ok (.ishl, 1) := by decide +kernel
theorem dX1_hanging_42 : decode cX1_hanging 42 = .ok (.ior, 1) := by decide +kernel
theorem dX1_hanging_43 : decode cX1_hanging 43 = .ok (.istore_n 2, 1) := by decide +kernel
theorem dX1_hanging_44 : decode cX1_hanging 44 = .ok (.iinc 3 1, 3) := by decide +kernel
theorem dX1_hanging_47 : decode cX1_hanging 47 = .ok (.goto (-29), 3) := by decide +kernel
theorem dX1_hanging_50 : decode cX1_hanging 50 = .ok (.iload_n 2, 1) := by decide +kernel
theorem dX1_hanging_51 : decode cX1_hanging 51 = .ok (.ireturn, 1) := by decide +kernel
theorem dX1_depth_0 : decode cX1_depth 0 = .ok (.iconst 0, 1) := by decide +kernel
theorem dX1_depth_1 : decode cX1_depth 1 = .ok (.istore_n 1, 1) := by decide +kernel
theorem dX1_depth_2 : decode cX1_depth 2 = .ok (.iconst 0, 1) := by decide +kernel
theorem dX1_depth_3 : decode cX1_depth 3 = .ok (.istore_n 2, 1) := by decide +kernel
theorem dX1_depth_4 : decode cX1_depth 4 = .ok (.iload_n 2, 1) := by decide +kernel
theorem dX1_depth_5 : decode cX1_depth 5 = .ok (.bipush 12, 2) := by decide +kernel
theorem dX1_depth_7 : decode cX1_depth 7 = .ok (.if_icmp .ge 16, 3) := by decide +kernel
theorem dX1_depth_10 : decode cX1_depth 10 = .ok (.aload_n 0, 1) := by decide +kernel
theorem dX1_depth_11 : decode cX1_depth 11 = .ok (.getfield 31, 3) := by decide +kernel
theorem dX1_depth_14 : decode cX1_depth 14 = .ok (.iload_n 2, 1) := by decide +kernel
theorem dX1_depth_15 : decode cX1_depth 15 = .ok (.iconst 0, 1) := by decide +kernel
theorem dX1_depth_16 : decode cX1_depth 16 = .ok (.iastore, 1) := by decide +kernel
theorem dX1_depth_17 : decode cX1_depth 17 = .ok (.iinc 2 1, 3) := by decide +kernel
theorem dX1_depth_20 : decode cX1_depth 20 = .ok (.goto (-16), 3) := by decide +kernel
theorem dX1_depth_23 : decode cX1_depth 23 = .ok (.iconst 0, 1) := by decide +kernel
theorem dX1_depth_24 : decode cX1_depth 24 = .ok (.istore_n 2, 1) := by decide +kernel
theorem dX1_depth_25 : decode cX1_depth 25 = .ok (.iload_n 2, 1) := by decide +kernel
theorem dX1_depth_26 : decode cX1_depth 26 = .ok (.bipush 12, 2) := by decide +kernel
theorem dX1_depth_28 : decode cX1_depth 28 = .ok (.if_icmp .ge 112, 3) := by decide +kernel
theorem dX1_depth_31 : decode cX1_depth 31 = .ok (.iconst 0, 1) := by decide +kernel
theorem dX1_depth_32 : decode cX1_depth 32 = .ok (.istore_n 3, 1) := by decide +kernel
theorem dX1_depth_33 : decode cX1_depth 33 = .ok (.iload_n 3, 1) := by decide +kernel
theorem dX1_depth_34 : decode cX1_depth 34 = .ok (.bipush 12, 2) := by decide +kernel
theorem dX1_depth_36 : decode cX1_depth 36 = .ok (.if_icmp .ge 98, 3) := by decide +kernel
theorem dX1_depth_39 : decode cX1_depth 39 = .ok (.aload_n 0, 1) := by decide +kernel
theorem dX1_depth_40 : decode cX1_depth 40 = .ok (.getfield 31, 3) := by decide +kernel
theorem dX1_depth_43 : decode cX1_depth 43 = .ok (.aload_n 0, 1) := by decide +kernel
theorem dX1_depth_44 : decode cX1_depth 44 = .ok (.getfield 16, 3) := by decide +kernel
theorem dX1_depth_47 : decode cX1_depth 47 = .ok (.iload_n 3, 1) := by decide +kernel
theorem dX1_depth_48 : decode cX1_depth 48 = .ok (.iaload, 1) := by decide +kernel
theorem dX1_depth_49 : decode cX1_depth 49 = .ok (.iaload, 1) := by decide +kernel
theorem dX1_depth_50 : decode cX1_depth 50 = .ok (.aload_n 0, 1) := by decide +kernel
theorem dX1_depth_51 : decode cX1_depth 51 = .ok (.getfield 31, 3) := by decide +kernel
theorem dX1_depth_54 : decode cX1_depth 54 = .ok (.aload_n 0, 1) := by decide +kernel
theorem dX1_depth_55 : decode cX1_depth 55 = .ok (.getfield 19, 3) := by decide +kernel
theorem dX1_depth_58 : decode cX1_depth 58 = .ok (.iload_n 3, 1) := by decide +kernel
theorem dX1_depth_59 : decode cX1_depth 59 = .ok (.iaload, 1) := by decide +kernel
theorem dX1_depth_60 : decode cX1_depth 60 = .ok (.iaload, 1) := by decide +kernel
theorem dX1_depth_61 : decode cX1_depth 61 = .ok (.if_icmp .le 17, 3) := by decide +kernel
theorem dX1_depth_64 : decode cX1_depth 64 = .ok (.aload_n 0, 1) := by decide +kernel
theorem dX1_depth_65 : decode cX1_depth 65 = .ok (.getfield 31, 3) := by decide +kernel
theorem dX1_depth_68 : decode cX1_depth 68 = .ok (.aload_n 0, 1) := by decide +kernel
theorem dX1_depth_69 : decode cX1_depth 69 = .ok (.getfield 16, 3) := by decide +kernel
theorem dX1_depth_72 : decode cX1_depth 72 = .ok (.iload_n 3, 1) := by decide +kernel
theorem dX1_depth_73 : decode cX1_depth 73 = .ok (.iaload, 1) := by decide +kernel
theorem dX1_depth_74 : decode cX1_depth 74 = .ok (.iaload, 1) := by decide +kernel
theorem dX1_depth_75 : decode cX1_depth 75 = .ok (.goto 14, 3) := by decide +kernel
theorem dX1_depth_78 : decode cX1_depth 78 = .ok (.aload_n 0, 1) := by decide +kernel
theorem dX1_depth_79 : decode cX1_depth 79 = .ok (.getfield 31, 3) := by decide +kernel
theorem dX1_depth_82 : decode cX1_depth 82 = .ok (.aload_n 0, 1) := by decide +kernel
theorem dX1_depth_83 : decode cX1_depth 83 = .ok (.getfield 19, 3) := by decide +kernel
theorem dX1_depth_86 : decode cX1_depth 86 = .ok (.iload_n 3, 1) := by decide +kernel
theorem dX1_depth_87 : decode cX1_depth 87 = .ok (.iaload, 1) := by decide +kernel
theorem dX1_depth_88 : decode cX1_depth 88 = .ok (.iaload, 1) := by decide +kernel
theorem dX1_depth_89 : decode cX1_depth 89 = .ok (.istore 4, 2) := by decide +kernel
theorem dX1_depth_91 : decode cX1_depth 91 = .ok (.aload_n 0, 1) := by decide +kernel
theorem dX1_depth_92 : decode cX1_depth 92 = .ok (.getfield 7, 3) := by decide +kernel
theorem dX1_depth_95 : decode cX1_depth 95 = .ok (.iload_n 3, 1) := by decide +kernel
theorem dX1_depth_96 : decode cX1_depth 96 = .ok (.iaload, 1) := by decide +kernel
theorem dX1_depth_97 : decode cX1_depth 97 = .ok (.iconst 1, 1) := by decide +kernel
theorem dX1_depth_98 : decode cX1_depth 98 = .ok (.if_icmp .ne 13, 3) := by decide +kernel
theorem dX1_depth_101 : decode cX1_depth 101 = .ok (.aload_n 0, 1) := by decide +kernel
theorem dX1_depth_102 : decode cX1_depth 102 = .ok (.getfield 31, 3) := by decide +kernel
theorem dX1_depth_105 : decode cX1_depth 105 = .ok (.iload_n 3, 1) := by decide +kernel
theorem dX1_depth_106 : decode cX1_depth 106 = .ok (.iload 4, 2) := by decide +kernel
theorem dX1_depth_108 : decode cX1_depth 108 = .ok (.iconst 1, 1) := by decide +kernel
theorem dX1_depth_109 : decode cX1_depth 109 = .ok (.iadd, 1) := by decide +kernel
theorem dX1_depth_110 : decode cX1_depth 110 = .ok (.iastore, 1) := by decide +kernel
theorem dX1_depth_111 : decode cX1_depth 111 = .ok (.aload_n 0, 1) := by decide +kernel
theorem dX1_depth_112 : decode cX1_depth 112 = .ok (.getfield 31, 3) := by decide +kernel
theorem dX1_depth_115 : decode cX1_depth 115 = .ok (.iload_n 3, 1) := by decide +kernel
theorem dX1_depth_116 : decode cX1_depth 116 = .ok (.iaload, 1) := by decide +kernel
theorem dX1_depth_117 : decode cX1_depth 117 = .ok (.iload_n 1, 1) := by decide +kernel
theorem dX1_depth_118 : decode cX1_depth 118 = .ok (.if_icmp .le 10, 3) := by decide +kernel
theorem dX1_depth_121 : decode cX1_depth 121 = .ok (.aload_n 0, 1) := by decide +kernel
theorem dX1_depth_122 : decode cX1_depth 122 = .ok (.getfield 31, 3) := by decide +kernel
theorem dX1_depth_125 : decode cX1_depth 125 = .ok (.iload_n 3, 1) := by decide +kernel
theorem dX1_depth_126 : decode cX1_depth 126 = .ok (.iaload, 1) := by decide +kernel
theorem dX1_depth_127 : decode cX1_depth 127 = .ok (.istore_n 1, 1) := by decide +kernel
theorem dX1_depth_128 : decode cX1_depth 128 = .ok (.iinc 3 1, 3) := by decide +kernel
theorem dX1_depth_131 : decode cX1_depth 131 = .ok (.goto (-98), 3) := by decide +kernel
theorem dX1_depth_134 : decode cX1_depth 134 = .ok (.iinc 2 1, 3) := by decide +kernel
theorem dX1_depth_137 : decode cX1_depth 137 = .ok (.goto (-112), 3) := by decide +kernel
theorem dX1_depth_140 : decode cX1_depth 140 = .ok (.iload_n 1, 1) := by decide +kernel
theorem dX1_depth_141 : decode cX1_depth 141 = .ok (.ireturn, 1) := by decide +kernel
end
section
/-! decode rows -/
set_option maxRecDepth 100000
theorem dL_law_0 : decode cL_law 0 = .ok (.new 7, 3) := by decide +kernel
theorem dL_law_3 : decode cL_law 3 = .ok (.dup, 1) := by decide +kernel
theorem dL_law_4 : decode cL_law 4 = .ok (.invokespecial 9, 3) := by decide +kernel
theorem dL_law_7 : decode cL_law 7 = .ok (.astore_n 1, 1) := by decide +kernel
theorem dL_law_8 : decode cL_law 8 = .ok (.new 10, 3) := by decide +kernel
theorem dL_law_11 : decode cL_law 11 = .ok (.dup, 1) := by decide +kernel
theorem dL_law_12 : decode cL_law 12 = .ok (.invokespecial 12, 3) := by decide +kernel
theorem dL_law_15 : decode cL_law 15 = .ok (.astore_n 2, 1) := by decide +kernel
theorem dL_law_16 : decode cL_law 16 = .ok (.iconst 0, 1) := by decide +kernel
theorem dL_law_17 : decode cL_law 17 = .ok (.istore_n 3, 1) := by decide +kernel
theorem dL_law_18 : decode cL_law 18 = .ok (.iload_n 3, 1) := by decide +kernel
theorem dL_law_19 : decode cL_law 19 = .ok (.aload_n 0, 1) := by decide +kernel
theorem dL_law_20 : decode cL_law 20 = .ok (.arraylength, 1) := by decide +kernel
theorem dL_law_21 : decode cL_law 21 = .ok (.iconst 5, 1) := by decide +kernel
theorem dL_law_22 : decode cL_law 22 = .ok (.isub, 1) := by decide +kernel
theorem dL_law_23 : decode cL_law 23 = .ok (.if_icmp .gt 354, 3) := by decide +kernel
theorem dL_law_26 : decode cL_law 26 = .ok (.aload_n 0, 1) := by decide +kernel
theorem dL_law_27 : decode cL_law 27 = .ok (.iload_n 3, 1) := by decide +kernel
theorem dL_law_28 : decode cL_law 28 = .ok (.iaload, 1) := by decide +kernel
theorem dL_law_29 : decode cL_law 29 = .ok (.bipush 15, 2) := by decide +kernel
theorem dL_law_31 : decode cL_law 31 = .ok (.iand, 1) := by decide +kernel
theorem dL_law_32 : decode cL_law 32 = .ok (.tableswitch 339 0 8 #[52, 105, 158, 181, 214, 257, 280, 303, 326], 52) := by decide +kernel
theorem dL_law_84 : decode cL_law 84 = .ok (.aload_n 1, 1) := by decide +kernel
theorem dL_law_85 : decode cL_law 85 = .ok (.aload_n 0, 1) := by decide +kernel
theorem dL_law_86 : decode cL_law 86 = .ok (.iload_n 3, 1) := by decide +kernel
theorem dL_law_87 : decode cL_law 87 = .ok (.iconst 1, 1) := by decide +kernel
theorem dL_law_88 : decode cL_law 88 = .ok (.iadd, 1) := by decide +kernel
theorem dL_law_89 : decode cL_law 89 = .ok (.iaload, 1) := by decide +kernel
theorem dL_law_90 : decode cL_law 90 = .ok (.aload_n 0, 1) := by decide +kernel
theorem dL_law_91 : decode cL_law 91 = .ok (.iload_n 3, 1) := by decide +kernel
theorem dL_law_92 : decode cL_law 92 = .ok (.iconst 2, 1) := by decide +kernel
theorem dL_law_93 : decode cL_law 93 = .ok (.iadd, 1) := by decide +kernel
theorem dL_law_94 : decode cL_law 94 = .ok (.iaload, 1) := by decide +kernel
theorem dL_law_95 : decode cL_law 95 = .ok (.aload_n 0, 1) := by decide +kernel
theorem dL_law_96 : decode cL_law 96 = .ok (.iload_n 3, 1) := by decide +kernel
theorem dL_law_97 : decode cL_law 97 = .ok (.iconst 3, 1) := by decide +kernel
theorem dL_law_98 : decode cL_law 98 = .ok (.iadd, 1) := by decide +kernel
theorem dL_law_99 : decode cL_law 99 = .ok (.iaload, 1) := by decide +kernel
theorem dL_law_100 : decode cL_law 100 = .ok (.aload_n 0, 1) := by decide +kernel
theorem dL_law_101 : decode cL_law 101 = .ok (.iload_n 3, 1) := by decide +kernel
theorem dL_law_102 : decode cL_law 102 = .ok (.iconst 4, 1) := by decide +kernel
theorem dL_law_103 : decode cL_law 103 = .ok (.iadd, 1) := by decide +kernel
theorem dL_law_104 : decode cL_law 104 = .ok (.iaload, 1) := by decide +kernel
theorem dL_law_105 : decode cL_law 105 = .ok (.invokevirtual 13, 3) := by decide +kernel
theorem dL_law_108 : decode cL_law 108 = .ok (.aload_n 2, 1) := by decide +kernel
theorem dL_law_109 : decode cL_law 109 = .ok (.aload_n 0, 1) := by decide +kernel
theorem dL_law_110 : decode cL_law 110 = .ok (.iload_n 3, 1) := by decide +kernel
theorem dL_law_111 : decode cL_law 111 = .ok (.iconst 1, 1) := by decide +kernel
theorem dL_law_112 : decode cL_law 112 = .ok (.iadd, 1) := by decide +kernel
theorem dL_law_113 : decode cL_law 113 = .ok (.iaload, 1) := by decide +kernel
theorem dL_law_114 : decode cL_law 114 = .ok (.aload_n 0, 1) := by decide +kernel
theorem dL_law_115 : decode cL_law 115 = .ok (.iload_n 3, 1) := by decide +kernel
theorem dL_law_116 : decode cL_law 116 = .ok (.iconst 2, 1) := by decide +kernel
theorem dL_law_117 : decode cL_law 117 = .ok (.iadd, 1) := by decide +kernel
theorem dL_law_118 : decode cL_law 118 = .ok (.iaload, 1) := by decide +kernel
theorem dL_law_119 : decode cL_law 119 = .ok (.aload_n 0, 1) := by decide +kernel
theorem dL_law_120 : decode cL_law 120 = .ok (.iload_n 3, 1) := by decide +kernel
theorem dL_law_121 : decode cL_law 121 = .ok (.iconst 3, 1) := by decide +kernel
theorem dL_law_122 : decode cL_law 122 = .ok (.iadd, 1) := by decide +kernel
theorem dL_law_123 : decode cL_law 123 = .ok (.iaload, 1) := by decide +kernel
theorem dL_law_124 : decode cL_law 124 = .ok (.aload_n 0, 1) := by decide +kernel
theorem dL_law_125 : decode cL_law 125 = .ok (.iload_n 3, 1) := by decide +kernel
theorem dL_law_126 : decode cL_law 126 = .ok (.iconst 4, 1) := by decide +kernel
theorem dL_law_127 : decode cL_law 127 = .ok (.iadd, 1) := by decide +kernel
theorem dL_law_128 : decode cL_law 128 = .ok (.iaload, 1) := by decide +kernel
theorem dL_law_129 : decode cL_law 129 = .ok (.invokevirtual 17, 3) := by decide +kernel
theorem dL_law_132 : decode cL_law 132 = .ok (.if_icmp .eq 239, 3) := by decide +kernel
theorem dL_law_135 : decode cL_law 135 = .ok (.iconst 0, 1) := by decide +kernel
theorem dL_law_136 : decode cL_law 136 = .ok (.ireturn, 1) := by decide +kernel
theorem dL_law_137 : decode cL_law 137 = .ok (.aload_n 1, 1) := by decide +kernel
theorem dL_law_138 : decode cL_law 138 = .ok (.aload_n 0, 1) := by decide +kernel
theorem dL_law_139 : decode cL_law 139 = .ok (.iload_n 3, 1) := by decide +kernel
theorem dL_law_140 : decode cL_law 140 = .ok (.iconst 1, 1) := by decide +kernel
theorem dL_law_141 : decode cL_law 141 = .ok (.iadd, 1) := by decide +kernel
theorem dL_law_142 : decode cL_law 142 = .ok (.iaload, 1) := by decide +kernel
theorem dL_law_143 : decode cL_law 143 = .ok (.aload_n 0, 1) := by decide +kernel
theorem dL_law_144 : decode cL_law 144 = .ok (.iload_n 3, 1) := by decide +kernel
theorem dL_law_145 : decode cL_law 145 = .ok (.iconst 2, 1) := by decide +kernel
theorem dL_law_146 : decode cL_law 146 = .ok (.iadd, 1) := by decide +kernel
theorem dL_law_147 : decode cL_law 147 = .ok (.iaload, 1) := by decide +kernel
theorem dL_law_148 : decode cL_law 148 = .ok (.aload_n 0, 1) := by decide +kernel
theorem dL_law_149 : decode cL_law 149 = .ok (.iload_n 3, 1) := by decide +kernel
theorem dL_law_150 : decode cL_law 150 = .ok (.iconst 3, 1) := by decide +kernel
theorem dL_law_151 : decode cL_law 151 = .ok (.iadd, 1) := by decide +kernel
theorem dL_law_152 : decode cL_law 152 = .ok (.iaload, 1) := by decide +kernel
theorem dL_law_153 : decode cL_law 153 = .ok (.aload_n 0, 1) := by decide +kernel
theorem dL_law_154 : decode cL_law 154 = .ok (.iload_n 3, 1) := by decide +kernel
theorem dL_law_155 : decode cL_law 155 = .ok (.iconst 4, 1) := by decide +kernel
theorem dL_law_156 : decode cL_law 156 = .ok (.iadd, 1) := by decide +kernel
theorem dL_law_157 : decode cL_law 157 = .ok (.iaload, 1) := by decide +kernel
theorem dL_law_158 : decode cL_law 158 = .ok (.invokevirtual 18, 3) := by decide +kernel
theorem dL_law_161 : decode cL_law 161 = .ok (.aload_n 2, 1) := by decide +kernel
theorem dL_law_162 : decode cL_law 162 = .ok (.aload_n 0, 1) := by decide +kernel
theorem dL_law_163 : decode cL_law 163 = .ok (.iload_n 3, 1) := by decide +kernel
theorem dL_law_164 : decode cL_law 164 = .ok (.iconst 1, 1) := by decide +kernel
theorem dL_law_165 : decode cL_law 165 = .ok (.iadd, 1) := by decide +kernel
theorem dL_law_166 : decode cL_law 166 = .ok (.iaload, 1) := by decide +kernel
theorem dL_law_167 : decode cL_law 167 = .ok (.aload_n 0, 1) := by decide +kernel
theorem dL_law_168 : decode cL_law 168 = .ok (.iload_n 3, 1) := by decide +kernel
theorem dL_law_169 : decode cL_law 169 = .ok (.iconst 2, 1) := by decide +kernel
theorem dL_law_170 : decode cL_law 170 = .ok (.iadd, 1) := by decide +kernel
theorem dL_law_171 : decode cL_law 171 = .ok (.iaload, 1) := by decide +kernel
theorem dL_law_172 : decode cL_law 172 = .ok (.aload_n 0, 1) := by decide +kernel
theorem dL_law_173 : decode cL_law 173 = .ok (.iload_n 3, 1) := by decide +kernel
theorem dL_law_174 : decode cL_law 174 = .ok (.iconst 3, 1) := by decide +kernel
theorem dL_law_175 : decode cL_law 175 = .ok (.iadd, 1) := by decide +kernel
theorem dL_law_176 : decode cL_law 176 = .ok (.iaload, 1) := by decide +kernel
theorem dL_law_177 : decode cL_law 177 = .ok (.aload_n 0, 1) := by decide +kernel
theorem dL_law_178 : decode cL_law 178 = .ok (.iload_n 3, 1) := by decide +kernel
theorem dL_law_179 : decode cL_law 179 = .ok (.iconst 4, 1) := by decide +kernel
theorem dL_law_180 : decode cL_law 180 = .ok (.iadd, 1) := by decide +kernel
theorem dL_law_181 : decode cL_law 181 = .ok (.iaload, 1) := by decide +kernel
theorem dL_law_182 : decode cL_law 182 = .ok (.invokevirtual 21, 3) := by decide +kernel
theorem dL_law_185 : decode cL_law 185 = .ok (.if_icmp .eq 186, 3) := by decide +kernel
theorem dL_law_188 : decode cL_law 188 = .ok (.iconst 0, 1) := by decide +kernel
theorem dL_law_189 : decode cL_law 189 = .ok (.ireturn, 1) := by decide +kernel
theorem dL_law_190 : decode cL_law 190 = .ok (.aload_n 1, 1) := by decide +kernel
theorem dL_law_191 : decode cL_law 191 = .ok (.aload_n 0, 1) := by decide +kernel
theorem dL_law_192 : decode cL_law 192 = .ok (.iload_n 3, 1) := by decide +kernel
theorem dL_law_193 : decode cL_law 193 = .ok (.iconst 1, 1) := by decide +kernel
theorem dL_law_194 : decode cL_law 194 = .ok (.iadd, 1) := by decide +kernel
theorem dL_law_195 : decode cL_law 195 = .ok (.iaload, 1) := by decide +kernel
theorem dL_law_196 : decode cL_law 196 = .ok (.invokevirtual 22, 3) := by decide +kernel
theorem dL_law_199 : decode cL_law 199 = .ok (.aload_n 2, 1) := by decide +kernel
theorem dL_law_200 : decode cL_law 200 = .ok (.aload_n 0, 1) := by decide +kernel
theorem dL_law_201 : decode cL_law 201 = .ok (.iload_n 3, 1) := by decide +kernel
theorem dL_law_202 : decode cL_law 202 = .ok (.iconst 1, 1) := by decide +kernel
theorem dL_law_203 : decode cL_law 203 = .ok (.iadd, 1) := by decide +kernel
theorem dL_law_204 : decode cL_law 204 = .ok (.iaload, 1) := by decide +kernel
theorem dL_law_205 : decode cL_law 205 = .ok (.invokevirtual 26, 3) := by decide +kernel
end
section
/-! decode rows -/
set_option maxRecDepth 100000
theorem dL_law_208 : decode cL_law 208 = .ok (.if_icmp .eq 163, 3) := by decide +kernel
theorem dL_law_211 : decode cL_law 211 = .ok (.iconst 0, 1) := by decide +kernel
theorem dL_law_212 : decode cL_law 212 = .ok (.ireturn, 1) := by decide +kernel
theorem dL_law_213 : decode cL_law 213 = .ok (.aload_n 1, 1) := by decide +kernel
theorem dL_law_214 : decode cL_law 214 = .ok (.aload_n 0, 1) := by decide +kernel
theorem dL_law_215 : decode cL_law 215 = .ok (.iload_n 3, 1) := by decide +kernel
theorem dL_law_216 : decode cL_law 216 = .ok (.iconst 1, 1) := by decide +kernel
theorem dL_law_217 : decode cL_law 217 = .ok (.iadd, 1) := by decide +kernel
theorem dL_law_218 : decode cL_law 218 = .ok (.iaload, 1) := by decide +kernel
theorem dL_law_219 : decode cL_law 219 = .ok (.aload_n 0, 1) := by decide +kernel
theorem dL_law_220 : decode cL_law 220 = .ok (.iload_n 3, 1) := by decide +kernel
theorem dL_law_221 : decode cL_law 221 = .ok (.iconst 2, 1) := by decide +kernel
theorem dL_law_222 : decode cL_law 222 = .ok (.iadd, 1) := by decide +kernel
theorem dL_law_223 : decode cL_law 223 = .ok (.iaload, 1) := by decide +kernel
theorem dL_law_224 : decode cL_law 224 = .ok (.invokevirtual 27, 3) := by decide +kernel
theorem dL_law_227 : decode cL_law 227 = .ok (.aload_n 2, 1) := by decide +kernel
theorem dL_law_228 : decode cL_law 228 = .ok (.aload_n 0, 1) := by decide +kernel
theorem dL_law_229 : decode cL_law 229 = .ok (.iload_n 3, 1) := by decide +kernel
theorem dL_law_230 : decode cL_law 230 = .ok (.iconst 1, 1) := by decide +kernel
theorem dL_law_231 : decode cL_law 231 = .ok (.iadd, 1) := by decide +kernel
theorem dL_law_232 : decode cL_law 232 = .ok (.iaload, 1) := by decide +kernel
theorem dL_law_233 : decode cL_law 233 = .ok (.aload_n 0, 1) := by decide +kernel
theorem dL_law_234 : decode cL_law 234 = .ok (.iload_n 3, 1) := by decide +kernel
theorem dL_law_235 : decode cL_law 235 = .ok (.iconst 2, 1) := by decide +kernel
theorem dL_law_236 : decode cL_law 236 = .ok (.iadd, 1) := by decide +kernel
theorem dL_law_237 : decode cL_law 237 = .ok (.iaload, 1) := by decide +kernel
theorem dL_law_238 : decode cL_law 238 = .ok (.invokevirtual 31, 3) := by decide +kernel
theorem dL_law_241 : decode cL_law 241 = .ok (.if_icmp .eq 130, 3) := by decide +kernel
theorem dL_law_244 : decode cL_law 244 = .ok (.iconst 0, 1) := by decide +kernel
theorem dL_law_245 : decode cL_law 245 = .ok (.ireturn, 1) := by decide +kernel
theorem dL_law_246 : decode cL_law 246 = .ok (.aload_n 1, 1) := by decide +kernel
theorem dL_law_247 : decode cL_law 247 = .ok (.aload_n 0, 1) := by decide +kernel
theorem dL_law_248 : decode cL_law 248 = .ok (.iload_n 3, 1) := by decide +kernel
theorem dL_law_249 : decode cL_law 249 = .ok (.iconst 1, 1) := by decide +kernel
theorem dL_law_250 : decode cL_law 250 = .ok (.iadd, 1) := by decide +kernel
theorem dL_law_251 : decode cL_law 251 = .ok (.iaload, 1) := by decide +kernel
theorem dL_law_252 : decode cL_law 252 = .ok (.aload_n 0, 1) := by decide +kernel
theorem dL_law_253 : decode cL_law 253 = .ok (.iload_n 3, 1) := by decide +kernel
theorem dL_law_254 : decode cL_law 254 = .ok (.iconst 2, 1) := by decide +kernel
theorem dL_law_255 : decode cL_law 255 = .ok (.iadd, 1) := by decide +kernel
theorem dL_law_256 : decode cL_law 256 = .ok (.iaload, 1) := by decide +kernel
theorem dL_law_257 : decode cL_law 257 = .ok (.aload_n 0, 1) := by decide +kernel
theorem dL_law_258 : decode cL_law 258 = .ok (.iload_n 3, 1) := by decide +kernel
theorem dL_law_259 : decode cL_law 259 = .ok (.iconst 3, 1) := by decide +kernel
theorem dL_law_260 : decode cL_law 260 = .ok (.iadd, 1) := by decide +kernel
theorem dL_law_261 : decode cL_law 261 = .ok (.iaload, 1) := by decide +kernel
theorem dL_law_262 : decode cL_law 262 = .ok (.invokevirtual 32, 3) := by decide +kernel
theorem dL_law_265 : decode cL_law 265 = .ok (.aload_n 2, 1) := by decide +kernel
theorem dL_law_266 : decode cL_law 266 = .ok (.aload_n 0, 1) := by decide +kernel
theorem dL_law_267 : decode cL_law 267 = .ok (.iload_n 3, 1) := by decide +kernel
theorem dL_law_268 : decode cL_law 268 = .ok (.iconst 1, 1) := by decide +kernel
theorem dL_law_269 : decode cL_law 269 = .ok (.iadd, 1) := by decide +kernel
theorem dL_law_270 : decode cL_law 270 = .ok (.iaload, 1) := by decide +kernel
theorem dL_law_271 : decode cL_law 271 = .ok (.aload_n 0, 1) := by decide +kernel
theorem dL_law_272 : decode cL_law 272 = .ok (.iload_n 3, 1) := by decide +kernel
theorem dL_law_273 : decode cL_law 273 = .ok (.iconst 2, 1) := by decide +kernel
theorem dL_law_274 : decode cL_law 274 = .ok (.iadd, 1) := by decide +kernel
theorem dL_law_275 : decode cL_law 275 = .ok (.iaload, 1) := by decide +kernel
theorem dL_law_276 : decode cL_law 276 = .ok (.aload_n 0, 1) := by decide +kernel
theorem dL_law_277 : decode cL_law 277 = .ok (.iload_n 3, 1) := by decide +kernel
theorem dL_law_278 : decode cL_law 278 = .ok (.iconst 3, 1) := by decide +kernel
theorem dL_law_279 : decode cL_law 279 = .ok (.iadd, 1) := by decide +kernel
theorem dL_law_280 : decode cL_law 280 = .ok (.iaload, 1) := by decide +kernel
theorem dL_law_281 : decode cL_law 281 = .ok (.invokevirtual 36, 3) := by decide +kernel
theorem dL_law_284 : decode cL_law 284 = .ok (.if_icmp .eq 87, 3) := by decide +kernel
theorem dL_law_287 : decode cL_law 287 = .ok (.iconst 0, 1) := by decide +kernel
theorem dL_law_288 : decode cL_law 288 = .ok (.ireturn, 1) := by decide +kernel
theorem dL_law_289 : decode cL_law 289 = .ok (.aload_n 1, 1) := by decide +kernel
theorem dL_law_290 : decode cL_law 290 = .ok (.aload_n 0, 1) := by decide +kernel
theorem dL_law_291 : decode cL_law 291 = .ok (.iload_n 3, 1) := by decide +kernel
theorem dL_law_292 : decode cL_law 292 = .ok (.iconst 1, 1) := by decide +kernel
theorem dL_law_293 : decode cL_law 293 = .ok (.iadd, 1) := by decide +kernel
theorem dL_law_294 : decode cL_law 294 = .ok (.iaload, 1) := by decide +kernel
theorem dL_law_295 : decode cL_law 295 = .ok (.invokevirtual 37, 3) := by decide +kernel
theorem dL_law_298 : decode cL_law 298 = .ok (.aload_n 2, 1) := by decide +kernel
theorem dL_law_299 : decode cL_law 299 = .ok (.aload_n 0, 1) := by decide +kernel
theorem dL_law_300 : decode cL_law 300 = .ok (.iload_n 3, 1) := by decide +kernel
theorem dL_law_301 : decode cL_law 301 = .ok (.iconst 1, 1) := by decide +kernel
theorem dL_law_302 : decode cL_law 302 = .ok (.iadd, 1) := by decide +kernel
theorem dL_law_303 : decode cL_law 303 = .ok (.iaload, 1) := by decide +kernel
theorem dL_law_304 : decode cL_law 304 = .ok (.invokevirtual 40, 3) := by decide +kernel
theorem dL_law_307 : decode cL_law 307 = .ok (.if_icmp .eq 64, 3) := by decide +kernel
theorem dL_law_310 : decode cL_law 310 = .ok (.iconst 0, 1) := by decide +kernel
theorem dL_law_311 : decode cL_law 311 = .ok (.ireturn, 1) := by decide +kernel
theorem dL_law_312 : decode cL_law 312 = .ok (.aload_n 1, 1) := by decide +kernel
theorem dL_law_313 : decode cL_law 313 = .ok (.aload_n 0, 1) := by decide +kernel
theorem dL_law_314 : decode cL_law 314 = .ok (.iload_n 3, 1) := by decide +kernel
theorem dL_law_315 : decode cL_law 315 = .ok (.iconst 1, 1) := by decide +kernel
theorem dL_law_316 : decode cL_law 316 = .ok (.iadd, 1) := by decide +kernel
theorem dL_law_317 : decode cL_law 317 = .ok (.iaload, 1) := by decide +kernel
theorem dL_law_318 : decode cL_law 318 = .ok (.invokevirtual 41, 3) := by decide +kernel
theorem dL_law_321 : decode cL_law 321 = .ok (.aload_n 2, 1) := by decide +kernel
theorem dL_law_322 : decode cL_law 322 = .ok (.aload_n 0, 1) := by decide +kernel
theorem dL_law_323 : decode cL_law 323 = .ok (.iload_n 3, 1) := by decide +kernel
theorem dL_law_324 : decode cL_law 324 = .ok (.iconst 1, 1) := by decide +kernel
theorem dL_law_325 : decode cL_law 325 = .ok (.iadd, 1) := by decide +kernel
theorem dL_law_326 : decode cL_law 326 = .ok (.iaload, 1) := by decide +kernel
theorem dL_law_327 : decode cL_law 327 = .ok (.invokevirtual 44, 3) := by decide +kernel
theorem dL_law_330 : decode cL_law 330 = .ok (.if_icmp .eq 41, 3) := by decide +kernel
theorem dL_law_333 : decode cL_law 333 = .ok (.iconst 0, 1) := by decide +kernel
theorem dL_law_334 : decode cL_law 334 = .ok (.ireturn, 1) := by decide +kernel
theorem dL_law_335 : decode cL_law 335 = .ok (.aload_n 1, 1) := by decide +kernel
theorem dL_law_336 : decode cL_law 336 = .ok (.aload_n 0, 1) := by decide +kernel
theorem dL_law_337 : decode cL_law 337 = .ok (.iload_n 3, 1) := by decide +kernel
theorem dL_law_338 : decode cL_law 338 = .ok (.iconst 1, 1) := by decide +kernel
theorem dL_law_339 : decode cL_law 339 = .ok (.iadd, 1) := by decide +kernel
theorem dL_law_340 : decode cL_law 340 = .ok (.iaload, 1) := by decide +kernel
theorem dL_law_341 : decode cL_law 341 = .ok (.invokevirtual 45, 3) := by decide +kernel
theorem dL_law_344 : decode cL_law 344 = .ok (.aload_n 2, 1) := by decide +kernel
theorem dL_law_345 : decode cL_law 345 = .ok (.aload_n 0, 1) := by decide +kernel
theorem dL_law_346 : decode cL_law 346 = .ok (.iload_n 3, 1) := by decide +kernel
theorem dL_law_347 : decode cL_law 347 = .ok (.iconst 1, 1) := by decide +kernel
theorem dL_law_348 : decode cL_law 348 = .ok (.iadd, 1) := by decide +kernel
theorem dL_law_349 : decode cL_law 349 = .ok (.iaload, 1) := by decide +kernel
theorem dL_law_350 : decode cL_law 350 = .ok (.invokevirtual 48, 3) := by decide +kernel
theorem dL_law_353 : decode cL_law 353 = .ok (.if_icmp .eq 18, 3) := by decide +kernel
theorem dL_law_356 : decode cL_law 356 = .ok (.iconst 0, 1) := by decide +kernel
theorem dL_law_357 : decode cL_law 357 = .ok (.ireturn, 1) := by decide +kernel
theorem dL_law_358 : decode cL_law 358 = .ok (.aload_n 1, 1) := by decide +kernel
theorem dL_law_359 : decode cL_law 359 = .ok (.invokevirtual 49, 3) := by decide +kernel
theorem dL_law_362 : decode cL_law 362 = .ok (.aload_n 2, 1) := by decide +kernel
theorem dL_law_363 : decode cL_law 363 = .ok (.invokevirtual 53, 3) := by decide +kernel
theorem dL_law_366 : decode cL_law 366 = .ok (.if_icmp .eq 5, 3) := by decide +kernel
theorem dL_law_369 : decode cL_law 369 = .ok (.iconst 0, 1) := by decide +kernel
theorem dL_law_370 : decode cL_law 370 = .ok (.ireturn, 1) := by decide +kernel
theorem dL_law_371 : decode cL_law 371 = .ok (.iinc 3 5, 3) := by decide +kernel
theorem dL_law_374 : decode cL_law 374 = .ok (.goto (-356), 3) := by decide +kernel
theorem dL_law_377 : decode cL_law 377 = .ok (.iconst 1, 1) := by decide +kernel
theorem dL_law_378 : decode cL_law 378 = .ok (.ireturn, 1) := by decide +kernel
end
section
/-! rows over Nat for the walks: worlds of both classes, numbers as nI, calls inside a class -/
set_option maxRecDepth 100000
theorem en_and (a b : Nat) : nI a &&& nI b = nI (a &&& b) := by
  apply Int32.toBitVec_inj.1
  show BitVec.ofNat 32 a &&& BitVec.ofNat 32 b = BitVec.ofNat 32 (a &&& b)
  apply BitVec.eq_of_getLsbD_eq
  intro i hi
  simp [hi]
theorem en_xor (a b : Nat) : nI a ^^^ nI b = nI (a ^^^ b) := by
  apply Int32.toBitVec_inj.1
  show BitVec.ofNat 32 a ^^^ BitVec.ofNat 32 b = BitVec.ofNat 32 (a ^^^ b)
  apply BitVec.eq_of_getLsbD_eq
  intro i hi
  simp [hi]
theorem en_or (a b : Nat) : nI a ||| nI b = nI (a ||| b) := by
  apply Int32.toBitVec_inj.1
  show BitVec.ofNat 32 a ||| BitVec.ofNat 32 b = BitVec.ofNat 32 (a ||| b)
  apply BitVec.eq_of_getLsbD_eq
  intro i hi
  simp [hi]
theorem en_sl : ∀ n, n < 32 → ((nI n &&& 31).toBitVec.smod 32).toNat = n := by decide +kernel
theorem en_b : ∀ v, v < 128 → (nI v).toInt8.toInt32 = nI v := by decide +kernel
theorem en_sub15 : ∀ a, a < 16 → ∀ b, b < 16 → (nI a - nI b) &&& nI 15 = nI ((a + 16 - b) % 16) := by decide +kernel
theorem en_bit (a b : Nat) : a / 2 ^ b &&& 1 = (a.testBit b).toNat := by
  rw [Nat.and_one_is_mod, Nat.toNat_testBit]
theorem en_upd {f : ec_A} {k v : Nat} (hk : k < 12) {x : Int32} (hx : x = nI v) : upd (fun i => nI (f i)) (nI k).toNatClampNeg x = fun i => nI (ec_up f k v i) := by
  rw [nI_clamp (by omega), hx]
  funext j
  by_cases e : j = k
  · rw [e, pk_us, ec_up_s]
  · rw [pk_un e, ec_up_n e]
theorem en_nar {v : Nat} (hv : v < 128) : vp_nar .byte (nI v) = nI v := by rw [vp_nar_byte, en_b v hv]
abbrev vwCl : List vw_C := [(RX0, TX0, 11), (RX1, TX1, 8)]
abbrev ec_G : Type := ClassId × ClassId
abbrev ec_ar (c : ClassId) (f : ec_A) : va_E := .inl (c, 12, .inl (fun i => nI (f i)))
abbrev XFs (ad : Nat → Nat) (σ : XS) : List Value := [.ref (ad 0), .ref (ad 1), .ref (ad 2), .ref (ad 3), .ref (ad 4), .ref (ad 5), .ref (ad 6), .ref (ad 7), .int (nI (xaw σ)), .int (nI (xld σ)), .ref (ad 8)]
abbrev XW (G : ec_G) (h : Nat) (ad : Nat → Nat) (σ : XS) : va_W := [(h, .inr (0, XFs ad σ)), (ad 0, ec_ar G.1 (xso σ)), (ad 1, ec_ar G.1 (xvl σ)), (ad 2, ec_ar G.1 (xop σ)), (ad 3, ec_ar G.1 (xsa σ)), (ad 4, ec_ar G.1 (xsb σ)), (ad 5, ec_ar G.1 (xck σ)), (ad 6, ec_ar G.2 (xli σ)), (ad 7, ec_ar G.1 (xlv σ)), (ad 8, ec_ar G.1 (xcm σ))]
abbrev MFs (ad : Nat → Nat) : List Value := [.ref (ad 0), .ref (ad 1), .ref (ad 2), .ref (ad 3), .ref (ad 4), .ref (ad 5), .ref (ad 6), .ref (ad 7)]
abbrev MW (G : ec_G) (h : Nat) (ad : Nat → Nat) (τ : MS) : va_W := [(h, .inr (1, MFs ad)), (ad 0, ec_ar G.2 (mkd τ)), (ad 1, ec_ar G.2 (mop τ)), (ad 2, ec_ar G.2 (ma τ)), (ad 3, ec_ar G.2 (mb τ)), (ad 4, ec_ar G.2 (mck τ)), (ad 5, ec_ar G.2 (mvl τ)), (ad 6, ec_ar G.2 (mbf τ)), (ad 7, ec_ar G.2 (mon τ))]
abbrev ec_ty (G : ec_G) : List (ClassId × FieldType) := [(G.1, .byte), (G.2, .int)]
abbrev ec_rm (d : Nat) : Room := { frames := d, cells := 0, slots := 0, locals := 30 * d }
def ec_Z (D : va_G) (G : ec_G) (A : Nat → Prop) (s : State) (ws : va_W) (H : Heap) (locs : List Loc) : Prop := va_K D vwCl (ec_ty G) s ∧ va_P D vwCl ws H ∧ va_D A ws ∧ va_S A s.heap H locs
def ec_Pre (D : va_G) (G : ec_G) (ws : va_W) (sz : Nat) : State → Prop := fun U => U.heap.size = sz ∧ va_P D vwCl ws U.heap ∧ va_K D vwCl (ec_ty G) U ∧ va_D (fun _ => True) ws
def ec_Pst {S : Type} (D : va_G) (G : ec_G) (A : Nat → Prop) (Wf : S → va_W) : S → State → Prop := fun u t => va_P D vwCl (Wf u) t.heap ∧ va_K D vwCl (ec_ty G) t ∧ va_D A (Wf u)
/-- contracts of methods that answer a number, and of methods that answer nothing -/
abbrev ec_Mi {S : Type} (l : Launch) (y : MethodName) (cd : ByteArray) (nL : Nat) (ret : Option FieldType) (d : Nat) (D : va_G) (G : ec_G) (Wf : S → va_W) (h : Nat) (As : List Value) (σ : S) (sz : Nat) (post : Int32 → S → Prop) : Prop :=
  Met l y (ws_ y cd nL ret) (ec_rm d) (va_Pc (.ref h :: As) (ec_Pre D G (Wf σ) sz)) (va_Qi post (ec_Pst D G (va_A (Wf σ) sz) Wf) (va_A (Wf σ) sz)) 0 0 (va_A (Wf σ) sz)
abbrev ec_Mv {S : Type} (l : Launch) (y : MethodName) (cd : ByteArray) (nL : Nat) (d : Nat) (D : va_G) (G : ec_G) (Wf : S → va_W) (h : Nat) (As : List Value) (σ : S) (sz : Nat) (post : S → Prop) : Prop :=
  Met l y (ws_ y cd nL none) (ec_rm d) (va_Pc (.ref h :: As) (ec_Pre D G (Wf σ) sz)) (va_Qv post (ec_Pst D G (va_A (Wf σ) sz) Wf) (va_A (Wf σ) sz)) 0 0 (va_A (Wf σ) sz)
theorem ec_enter_i {S : Type} {l : Launch} {y : MethodName} {cd : ByteArray} {nL : Nat} {ret : Option FieldType} {d : Nat} {D : va_G} {G : ec_G} {Wf : S → va_W} {h : Nat} {As : List Value} {σ : S} {sz : Nat} {post : Int32 → S → Prop} (own : String)
    (hy : plainName y.cls = true) (ho : y.cls = own) (hn : (lg_sl (.ref h :: As)).length ≤ nL)
    (body : ∀ (p : Program) (e : Env) (s : State) (m : MethodId) (below : List Frame) (meth : Method) (c : Code) (A : Nat → Prop), CallFix p m c cd nL s (Value.ref h :: As).toArray lw_all own → meth.sig.returnType = ret → meth.locks = false →
      (∀ q, s.heap.size ≤ q → A q) → ec_Z D G A s (Wf σ) s.heap [] → ∀ ls : Array Slot, lv_has ls nL (lv_args 0 (.ref h :: As)) →
      W p l e (ec_rm d) s m (Value.ref h :: As).toArray below meth c s.heap [] 0 0 (MQ below (va_Qi post (ec_Pst D G A Wf) A) (Value.ref h :: As).toArray s 0 0 A) (F0 m 0 ls [])) :
    ec_Mi l y cd nL ret d D G Wf h As σ sz post := by
  refine Met.ofW (cc := cd) (maxL := nL) (ret := ret) hy rfl ?_
  intro p e s m args below meth c s₁ B hml hv
  obtain ⟨rfl, hsz, hP, hK, hD0⟩ := hv
  have hts := atoms_spec (ws := ws_ y cd nL ret) B.pre
  have hts : ∀ w ∈ lw_all, w.before _ s = true := fun w h => hts w (List.mem_cons_of_mem _ h)
  have hown : s.vm.findClass y.cls = some m.cls := findClass_of_methodNamed B.named
  subst hsz
  have hl := lv_entry (.ref h :: As) (n := nL) hn
  rw [lg_entry_eq]
  exact body p e s m below meth c (va_A (Wf σ) s.heap.size) ⟨B.exec, B.bytes, hml, by rw [← ho]; exact hown, hts⟩ B.returns B.notSynchronized (fun q h => Or.inr h) ⟨hK, hP, hD0.self, va_S.rf⟩ _ hl
theorem ec_enter_v {S : Type} {l : Launch} {y : MethodName} {cd : ByteArray} {nL : Nat} {d : Nat} {D : va_G} {G : ec_G} {Wf : S → va_W} {h : Nat} {As : List Value} {σ : S} {sz : Nat} {post : S → Prop} (own : String)
    (hy : plainName y.cls = true) (ho : y.cls = own) (hn : (lg_sl (.ref h :: As)).length ≤ nL)
    (body : ∀ (p : Program) (e : Env) (s : State) (m : MethodId) (below : List Frame) (meth : Method) (c : Code) (A : Nat → Prop), CallFix p m c cd nL s (Value.ref h :: As).toArray lw_all own → meth.sig.returnType = none → meth.locks = false →
      (∀ q, s.heap.size ≤ q → A q) → ec_Z D G A s (Wf σ) s.heap [] → ∀ ls : Array Slot, lv_has ls nL (lv_args 0 (.ref h :: As)) →
      W p l e (ec_rm d) s m (Value.ref h :: As).toArray below meth c s.heap [] 0 0 (MQ below (va_Qv post (ec_Pst D G A Wf) A) (Value.ref h :: As).toArray s 0 0 A) (F0 m 0 ls [])) :
    ec_Mv l y cd nL d D G Wf h As σ sz post := by
  refine Met.ofW (cc := cd) (maxL := nL) (ret := none) hy rfl ?_
  intro p e s m args below meth c s₁ B hml hv
  obtain ⟨rfl, hsz, hP, hK, hD0⟩ := hv
  have hts := atoms_spec (ws := ws_ y cd nL none) B.pre
  have hts : ∀ w ∈ lw_all, w.before _ s = true := fun w h => hts w (List.mem_cons_of_mem _ h)
  have hown : s.vm.findClass y.cls = some m.cls := findClass_of_methodNamed B.named
  subst hsz
  have hl := lv_entry (.ref h :: As) (n := nL) hn
  rw [lg_entry_eq]
  exact body p e s m below meth c (va_A (Wf σ) s.heap.size) ⟨B.exec, B.bytes, hml, by rw [← ho]; exact hown, hts⟩ B.returns B.notSynchronized (fun q h => Or.inr h) ⟨hK, hP, hD0.self, va_S.rf⟩ _ hl
section EcRows
variable {p : Program} {l : Launch} {e : Env} {R : Room} {s : State} {m : MethodId} {args : Array Value} {below : List Frame} {meth : Method} {c : Code} {H : Heap} {locs : List Loc} {cells slots : Nat} {Q : State → Prop}
variable {cc : ByteArray} {pc : Nat} {ls : Array Slot} {rest : List Value} {D : va_G} {G : ec_G} {A : Nat → Prop} {nL : Nat} {own : String} {ws ws' : va_W}
/-! numbers -/
theorem en_iadd (F : CallFix p m c cc nL s args lw_all own) {a b : Nat} (hd : decode cc pc = .ok (.iadd, 1)) (kk : W p l e R s m args below meth c H locs cells slots Q (F0 m (pc + 1) ls (.int (nI (a + b)) :: rest))) : W p l e R s m args below meth c H locs cells slots Q (F0 m pc ls (.int (nI b) :: .int (nI a) :: rest)) :=
  lv_iadd F.1 F.2.1 hd (by rw [nI_add]; exact kk)
theorem en_isub (F : CallFix p m c cc nL s args lw_all own) {a b : Nat} (h : b ≤ a) (hd : decode cc pc = .ok (.isub, 1)) (kk : W p l e R s m args below meth c H locs cells slots Q (F0 m (pc + 1) ls (.int (nI (a - b)) :: rest))) : W p l e R s m args below meth c H locs cells slots Q (F0 m pc ls (.int (nI b) :: .int (nI a) :: rest)) :=
  lv_isub F.1 F.2.1 hd (by rw [pk_sub h]; exact kk)
theorem en_iand (F : CallFix p m c cc nL s args lw_all own) {a b : Nat} (hd : decode cc pc = .ok (.iand, 1)) (kk : W p l e R s m args below meth c H locs cells slots Q (F0 m (pc + 1) ls (.int (nI (a &&& b)) :: rest))) : W p l e R s m args below meth c H locs cells slots Q (F0 m pc ls (.int (nI b) :: .int (nI a) :: rest)) :=
  lv_iand F.1 F.2.1 hd (by rw [en_and]; exact kk)
theorem en_ior (F : CallFix p m c cc nL s args lw_all own) {a b : Nat} (hd : decode cc pc = .ok (.ior, 1)) (kk : W p l e R s m args below meth c H locs cells slots Q (F0 m (pc + 1) ls (.int (nI (a ||| b)) :: rest))) : W p l e R s m args below meth c H locs cells slots Q (F0 m pc ls (.int (nI b) :: .int (nI a) :: rest)) :=
  lv_ior F.1 F.2.1 hd (by rw [en_or]; exact kk)
theorem en_ixor (F : CallFix p m c cc nL s args lw_all own) {a b : Nat} (hd : decode cc pc = .ok (.ixor, 1)) (kk : W p l e R s m args below meth c H locs cells slots Q (F0 m (pc + 1) ls (.int (nI (a ^^^ b)) :: rest))) : W p l e R s m args below meth c H locs cells slots Q (F0 m pc ls (.int (nI b) :: .int (nI a) :: rest)) :=
  lv_ixor F.1 F.2.1 hd (by rw [en_xor]; exact kk)
theorem en_iand15 (F : CallFix p m c cc nL s args lw_all own) {a b : Nat} (ha : a < 16) (hb : b < 16) (hd : decode cc pc = .ok (.iand, 1)) (kk : W p l e R s m args below meth c H locs cells slots Q (F0 m (pc + 1) ls (.int (nI ((a + 16 - b) % 16)) :: rest))) : W p l e R s m args below meth c H locs cells slots Q (F0 m pc ls (.int (nI 15) :: .int (nI a - nI b) :: rest)) :=
  lv_iand F.1 F.2.1 hd (by rw [en_sub15 a ha b hb]; exact kk)
theorem en_ishr (F : CallFix p m c cc nL s args lw_all own) {a b : Nat} (ha : a < 2 ^ 31) (hb : b < 32) (hd : decode cc pc = .ok (.ishr, 1)) (kk : W p l e R s m args below meth c H locs cells slots Q (F0 m (pc + 1) ls (.int (nI (a / 2 ^ b)) :: rest))) : W p l e R s m args below meth c H locs cells slots Q (F0 m pc ls (.int (nI b) :: .int (nI a) :: rest)) :=
  lv_ishr F.1 F.2.1 hd (by rw [pk_shrN ha _ b (en_sl b hb)]; exact kk)
theorem en_iand1 (F : CallFix p m c cc nL s args lw_all own) {a b : Nat} (hd : decode cc pc = .ok (.iand, 1)) (kk : W p l e R s m args below meth c H locs cells slots Q (F0 m (pc + 1) ls (.int (nI (a.testBit b).toNat) :: rest))) : W p l e R s m args below meth c H locs cells slots Q (F0 m pc ls (.int (nI 1) :: .int (nI (a / 2 ^ b)) :: rest)) :=
  lv_iand F.1 F.2.1 hd (by rw [en_and, en_bit]; exact kk)
theorem en_iand2 (F : CallFix p m c cc nL s args lw_all own) {a : Nat} (hd : decode cc pc = .ok (.iand, 1)) (kk : W p l e R s m args below meth c H locs cells slots Q (F0 m (pc + 1) ls (.int (nI (a % 2)) :: rest))) : W p l e R s m args below meth c H locs cells slots Q (F0 m pc ls (.int (nI 1) :: .int (nI a) :: rest)) :=
  lv_iand F.1 F.2.1 hd (by rw [en_and, Nat.and_one_is_mod]; exact kk)
theorem en_ishl (F : CallFix p m c cc nL s args lw_all own) {b : Nat} (hb : b < 31) (hd : decode cc pc = .ok (.ishl, 1)) (kk : W p l e R s m args below meth c H locs cells slots Q (F0 m (pc + 1) ls (.int (nI (2 ^ b)) :: rest))) : W p l e R s m args below meth c H locs cells slots Q (F0 m pc ls (.int (nI b) :: .int (nI 1) :: rest)) :=
  lv_ishl F.1 F.2.1 hd (by
    have h : 1 * 2 ^ b < 2 ^ 32 := by
      rw [Nat.one_mul]; exact Nat.pow_lt_pow_right (by decide) (by omega)
    rw [pk_shlN _ b (en_sl b (by omega)) h, Nat.one_mul]; exact kk)
theorem en_idiv (F : CallFix p m c cc nL s args lw_all own) {a b : Nat} (ha : a < 2 ^ 31) (h0 : 0 < b) (hb : b < 2 ^ 31) (hd : decode cc pc = .ok (.idiv, 1)) (kk : W p l e R s m args below meth c H locs cells slots Q (F0 m (pc + 1) ls (.int (nI (a / b)) :: rest))) : W p l e R s m args below meth c H locs cells slots Q (F0 m pc ls (.int (nI b) :: .int (nI a) :: rest)) :=
  lv_idiv F.1 F.2.1 hd (nI_ne0 h0 hb) (by rw [pk_div ha h0 hb]; exact kk)
theorem en_irem (F : CallFix p m c cc nL s args lw_all own) {a b : Nat} (ha : a < 2 ^ 31) (h0 : 0 < b) (hb : b < 2 ^ 31) (hd : decode cc pc = .ok (.irem, 1)) (kk : W p l e R s m args below meth c H locs cells slots Q (F0 m (pc + 1) ls (.int (nI (a % b)) :: rest))) : W p l e R s m args below meth c H locs cells slots Q (F0 m pc ls (.int (nI b) :: .int (nI a) :: rest)) :=
  lv_irem F.1 F.2.1 hd (nI_ne0 h0 hb) (by rw [pk_rem ha h0 hb]; exact kk)
theorem en_i2b (F : CallFix p m c cc nL s args lw_all own) {v : Nat} (hv : v < 128) (hd : decode cc pc = .ok (.i2b, 1)) (kk : W p l e R s m args below meth c H locs cells slots Q (F0 m (pc + 1) ls (.int (nI v) :: rest))) : W p l e R s m args below meth c H locs cells slots Q (F0 m pc ls (.int (nI v) :: rest)) :=
  lv_i2b F.1 F.2.1 hd (en_b v hv) kk
theorem en_iinc (F : CallFix p m c cc nL s args lw_all own) {i k a : Nat} {lv lv' : List (Nat × Value)} (hd : decode cc pc = .ok (.iinc i 1, 3)) (h : lv_has ls nL lv) (hk : lv[k]? = some (i, .int (nI a))) (hn : i < nL) (hl : (i, Value.int (nI (a + 1))) :: lv.filter (fun q => !(q.1 == i) && !(q.1 + 1 == i && q.2.category == 2)) = lv')
    (kk : ∀ ls' : Array Slot, lv_has ls' nL lv' → W p l e R s m args below meth c H locs cells slots Q (F0 m (pc + 3) ls' rest)) : W p l e R s m args below meth c H locs cells slots Q (F0 m pc ls rest) :=
  lv_iinc F.1 F.2.1 hd h hk (show nI a + Int32.ofInt 1 = nI (a + 1) from by rw [← nI_1]; rfl) hn hl kk
/-! branches -/
theorem en_icmp_ge (F : CallFix p m c cc nL s args lw_all own) {a b : Nat} {off : Int} {tgt : Nat} (ha : a < 2 ^ 31) (hb : b < 2 ^ 31) (hd : decode cc pc = .ok (.if_icmp .ge off, 3)) (ht : (pc : Int) + off = (tgt : Int))
    (kt : b ≤ a → W p l e R s m args below meth c H locs cells slots Q (F0 m tgt ls rest)) (kf : a < b → W p l e R s m args below meth c H locs cells slots Q (F0 m (pc + 3) ls rest)) : W p l e R s m args below meth c H locs cells slots Q (F0 m pc ls (.int (nI b) :: .int (nI a) :: rest)) :=
  lv_icmp_ge F.1 F.2.1 hd ht (fun h => kt ((nI_leI hb ha).mp h)) (fun h => kf (Nat.lt_of_not_le fun g => h ((nI_leI hb ha).mpr g)))
theorem en_icmp_gt (F : CallFix p m c cc nL s args lw_all own) {a b : Nat} {off : Int} {tgt : Nat} (ha : a < 2 ^ 31) (hb : b < 2 ^ 31) (hd : decode cc pc = .ok (.if_icmp .gt off, 3)) (ht : (pc : Int) + off = (tgt : Int))
    (kt : b < a → W p l e R s m args below meth c H locs cells slots Q (F0 m tgt ls rest)) (kf : a ≤ b → W p l e R s m args below meth c H locs cells slots Q (F0 m (pc + 3) ls rest)) : W p l e R s m args below meth c H locs cells slots Q (F0 m pc ls (.int (nI b) :: .int (nI a) :: rest)) :=
  lv_icmp_gt F.1 F.2.1 hd ht (fun h => kt ((nI_ltI hb ha).mp h)) (fun h => kf (Nat.le_of_not_lt fun g => h ((nI_ltI hb ha).mpr g)))
theorem en_icmp_le (F : CallFix p m c cc nL s args lw_all own) {a b : Nat} {off : Int} {tgt : Nat} (ha : a < 2 ^ 31) (hb : b < 2 ^ 31) (hd : decode cc pc = .ok (.if_icmp .le off, 3)) (ht : (pc : Int) + off = (tgt : Int))
    (kt : a ≤ b → W p l e R s m args below meth c H locs cells slots Q (F0 m tgt ls rest)) (kf : b < a → W p l e R s m args below meth c H locs cells slots Q (F0 m (pc + 3) ls rest)) : W p l e R s m args below meth c H locs cells slots Q (F0 m pc ls (.int (nI b) :: .int (nI a) :: rest)) :=
  lv_icmp_le F.1 F.2.1 hd ht (fun h => kt ((nI_leI ha hb).mp h)) (fun h => kf (Nat.lt_of_not_le fun g => h ((nI_leI ha hb).mpr g)))
theorem en_icmp_eq (F : CallFix p m c cc nL s args lw_all own) {a b : Nat} {off : Int} {tgt : Nat} (ha : a < 2 ^ 31) (hb : b < 2 ^ 31) (hd : decode cc pc = .ok (.if_icmp .eq off, 3)) (ht : (pc : Int) + off = (tgt : Int))
    (kt : a = b → W p l e R s m args below meth c H locs cells slots Q (F0 m tgt ls rest)) (kf : ¬ a = b → W p l e R s m args below meth c H locs cells slots Q (F0 m (pc + 3) ls rest)) : W p l e R s m args below meth c H locs cells slots Q (F0 m pc ls (.int (nI b) :: .int (nI a) :: rest)) :=
  lv_icmp_eq F.1 F.2.1 hd ht (fun h => kt ((nI_eq ha hb).mp h)) (fun h => kf fun g => h ((nI_eq ha hb).mpr g))
theorem en_icmp_ne (F : CallFix p m c cc nL s args lw_all own) {a b : Nat} {off : Int} {tgt : Nat} (ha : a < 2 ^ 31) (hb : b < 2 ^ 31) (hd : decode cc pc = .ok (.if_icmp .ne off, 3)) (ht : (pc : Int) + off = (tgt : Int))
    (kt : ¬ a = b → W p l e R s m args below meth c H locs cells slots Q (F0 m tgt ls rest)) (kf : a = b → W p l e R s m args below meth c H locs cells slots Q (F0 m (pc + 3) ls rest)) : W p l e R s m args below meth c H locs cells slots Q (F0 m pc ls (.int (nI b) :: .int (nI a) :: rest)) :=
  lv_icmp_ne F.1 F.2.1 hd ht (fun h => kt fun g => h ((nI_eq ha hb).mpr g)) (fun h => kf ((nI_eq ha hb).mp h))
theorem en_if_eq (F : CallFix p m c cc nL s args lw_all own) {a : Nat} {off : Int} {tgt : Nat} (ha : a < 2 ^ 31) (hd : decode cc pc = .ok (.ifCond .eq off, 3)) (ht : (pc : Int) + off = (tgt : Int))
    (kt : a = 0 → W p l e R s m args below meth c H locs cells slots Q (F0 m tgt ls rest)) (kf : ¬ a = 0 → W p l e R s m args below meth c H locs cells slots Q (F0 m (pc + 3) ls rest)) : W p l e R s m args below meth c H locs cells slots Q (F0 m pc ls (.int (nI a) :: rest)) :=
  lv_if_eq F.1 F.2.1 hd ht (fun h => kt ((nI_eq ha (by decide)).mp (h.trans nI_0.symm))) (fun h => kf fun g => h (by rw [g]; exact nI_0))
theorem en_if_ne (F : CallFix p m c cc nL s args lw_all own) {a : Nat} {off : Int} {tgt : Nat} (ha : a < 2 ^ 31) (hd : decode cc pc = .ok (.ifCond .ne off, 3)) (ht : (pc : Int) + off = (tgt : Int))
    (kt : ¬ a = 0 → W p l e R s m args below meth c H locs cells slots Q (F0 m tgt ls rest)) (kf : a = 0 → W p l e R s m args below meth c H locs cells slots Q (F0 m (pc + 3) ls rest)) : W p l e R s m args below meth c H locs cells slots Q (F0 m pc ls (.int (nI a) :: rest)) :=
  lv_if_ne F.1 F.2.1 hd ht (fun h => kt fun g => h (by rw [g]; exact nI_0)) (fun h => kf ((nI_eq ha (by decide)).mp (h.trans nI_0.symm)))
theorem en_ifb_eq (F : CallFix p m c cc nL s args lw_all own) {b : Bool} {off : Int} {tgt : Nat} (hd : decode cc pc = .ok (.ifCond .eq off, 3)) (ht : (pc : Int) + off = (tgt : Int))
    (kt : b = false → W p l e R s m args below meth c H locs cells slots Q (F0 m tgt ls rest)) (kf : b = true → W p l e R s m args below meth c H locs cells slots Q (F0 m (pc + 3) ls rest)) : W p l e R s m args below meth c H locs cells slots Q (F0 m pc ls (.int (nI b.toNat) :: rest)) := by
  refine en_if_eq F (by have := Bool.toNat_lt b; omega) hd ht (fun h => kt ?_) (fun h => kf ?_)
  · cases b with
    | false => rfl
    | true => exact absurd h (by decide)
  · cases b with
    | false => exact absurd rfl h
    | true => rfl
theorem en_ifb_ne (F : CallFix p m c cc nL s args lw_all own) {b : Bool} {off : Int} {tgt : Nat} (hd : decode cc pc = .ok (.ifCond .ne off, 3)) (ht : (pc : Int) + off = (tgt : Int))
    (kt : b = true → W p l e R s m args below meth c H locs cells slots Q (F0 m tgt ls rest)) (kf : b = false → W p l e R s m args below meth c H locs cells slots Q (F0 m (pc + 3) ls rest)) : W p l e R s m args below meth c H locs cells slots Q (F0 m pc ls (.int (nI b.toNat) :: rest)) := by
  refine en_if_ne F (by have := Bool.toNat_lt b; omega) hd ht (fun h => kt ?_) (fun h => kf ?_)
  · cases b with
    | false => exact absurd rfl h
    | true => rfl
  · cases b with
    | false => rfl
    | true => exact absurd h (by decide)
theorem en_icmpb_ne (F : CallFix p m c cc nL s args lw_all own) {b : Bool} {off : Int} {tgt : Nat} (hd : decode cc pc = .ok (.if_icmp .ne off, 3)) (ht : (pc : Int) + off = (tgt : Int))
    (kt : b = false → W p l e R s m args below meth c H locs cells slots Q (F0 m tgt ls rest)) (kf : b = true → W p l e R s m args below meth c H locs cells slots Q (F0 m (pc + 3) ls rest)) : W p l e R s m args below meth c H locs cells slots Q (F0 m pc ls (.int (nI 1) :: .int (nI b.toNat) :: rest)) := by
  refine en_icmp_ne F (by have := Bool.toNat_lt b; omega) (by decide) hd ht (fun h => kt ?_) (fun h => kf ?_)
  · cases b with
    | false => rfl
    | true => exact absurd rfl h
  · cases b with
    | false => exact absurd h (by decide)
    | true => rfl
/-! arrays -/
theorem en_bald (F : CallFix p m c cc nL s args lw_all own) (Z : ec_Z D G A s ws H locs) (q0 : Nat) (f : ec_A) {a k : Nat} (ha : ws[q0]? = some (a, ec_ar G.1 f)) (hk : k < 12) (hd : decode cc pc = .ok (.baload, 1)) (kk : W p l e R s m args below meth c H locs cells slots Q (F0 m (pc + 1) ls (.int (nI (f k)) :: rest))) :
    W p l e R s m args below meth c H locs cells slots Q (F0 m pc ls (.int (nI k) :: .ref a :: rest)) := by
  refine va_bald F.1 F.2.1 Z.1 Z.2.1 q0 0 ha rfl (vp_in_nI hk (by decide)) hd ?_
  show W p l e R s m args below meth c H locs cells slots Q (F0 m (pc + 1) ls (.int (nI (f (nI k).toNatClampNeg)) :: rest))
  rw [nI_clamp (by omega)]
  exact kk
theorem en_iald (F : CallFix p m c cc nL s args lw_all own) (Z : ec_Z D G A s ws H locs) (q0 : Nat) (f : ec_A) {a k : Nat} (ha : ws[q0]? = some (a, ec_ar G.2 f)) (hk : k < 12) (hd : decode cc pc = .ok (.iaload, 1)) (kk : W p l e R s m args below meth c H locs cells slots Q (F0 m (pc + 1) ls (.int (nI (f k)) :: rest))) :
    W p l e R s m args below meth c H locs cells slots Q (F0 m pc ls (.int (nI k) :: .ref a :: rest)) := by
  refine va_iald F.1 F.2.1 Z.1 Z.2.1 q0 1 ha rfl (vp_in_nI hk (by decide)) hd ?_
  show W p l e R s m args below meth c H locs cells slots Q (F0 m (pc + 1) ls (.int (nI (f (nI k).toNatClampNeg)) :: rest))
  rw [nI_clamp (by omega)]
  exact kk
theorem en_bast (F : CallFix p m c cc nL s args lw_all own) (Z : ec_Z D G A s ws H locs) (q0 : Nat) (f : ec_A) {a k v : Nat} (ha : ws[q0]? = some (a, ec_ar G.1 f)) (hk : k < 12) (hv : v < 128) (hw : ws.set q0 (a, ec_ar G.1 (ec_up f k v)) = ws') (hd : decode cc pc = .ok (.bastore, 1))
    (kk : ∀ (H1 : Heap) (locs1 : List Loc), ec_Z D G A s ws' H1 locs1 → W p l e R s m args below meth c H1 locs1 cells slots Q (F0 m (pc + 1) ls rest)) :
    W p l e R s m args below meth c H locs cells slots Q (F0 m pc ls (.int (nI v) :: .int (nI k) :: .ref a :: rest)) := by
  refine va_bast F.1 F.2.1 Z.1 Z.2.1 Z.2.2.1 Z.2.2.2 q0 0 ha rfl (vp_in_nI hk (by decide)) hd (fun H1 locs1 hP hD hS => ?_)
  rw [en_upd hk (en_nar hv)] at hP hD
  subst hw
  exact kk H1 locs1 ⟨Z.1, hP, hD, hS⟩
theorem en_iast (F : CallFix p m c cc nL s args lw_all own) (Z : ec_Z D G A s ws H locs) (q0 : Nat) (f : ec_A) {a k v : Nat} (ha : ws[q0]? = some (a, ec_ar G.2 f)) (hk : k < 12) (hw : ws.set q0 (a, ec_ar G.2 (ec_up f k v)) = ws') (hd : decode cc pc = .ok (.iastore, 1))
    (kk : ∀ (H1 : Heap) (locs1 : List Loc), ec_Z D G A s ws' H1 locs1 → W p l e R s m args below meth c H1 locs1 cells slots Q (F0 m (pc + 1) ls rest)) :
    W p l e R s m args below meth c H locs cells slots Q (F0 m pc ls (.int (nI v) :: .int (nI k) :: .ref a :: rest)) := by
  refine va_iast F.1 F.2.1 Z.1 Z.2.1 Z.2.2.1 Z.2.2.2 q0 1 ha rfl (vp_in_nI hk (by decide)) hd (fun H1 locs1 hP hD hS => ?_)
  rw [en_upd hk rfl] at hP hD
  subst hw
  exact kk H1 locs1 ⟨Z.1, hP, hD, hS⟩
/-! fields -/
theorem ex_get {h : Nat} {ad : Nat → Nat} {σ : XS} (F : CallFix p m c cc nL s args lw_all RX0) (Z : ec_Z D G A s (XW G h ad σ) H locs) (k : Nat) {idx : Nat} {v : Value} (hk : k < 11) (hn : (TX0 k).1 = RX0) (hv : (XFs ad σ)[k]? = some v) (hl : Cond.fieldLink RX0 idx RX0 (TX0 k).2.1 (TX0 k).2.2.1 ∈ lw_all) (hd : decode cc pc = .ok (.getfield idx, 3))
    (kk : W p l e R s m args below meth c H locs cells slots Q (F0 m (pc + 3) ls (v :: rest))) : W p l e R s m args below meth c H locs cells slots Q (F0 m pc ls (.ref h :: rest)) :=
  va_get (D := D) (ci := 0) (v := v) (C := RX0) (T := TX0) (N := 11) F.1 F.2.1 F.2.2.2.2 in_X0 F.2.2.2.1 Z.1 Z.2.1 0 rfl rfl k hk (F.2.2.2.2 _ hl) (fun _ h9 => by rw [hn] at h9; exact h9) hv hd kk
theorem em_get {h : Nat} {ad : Nat → Nat} {τ : MS} (F : CallFix p m c cc nL s args lw_all RX1) (Z : ec_Z D G A s (MW G h ad τ) H locs) (k : Nat) {idx : Nat} {v : Value} (hk : k < 8) (hn : (TX1 k).1 = RX1) (hv : (MFs ad)[k]? = some v) (hl : Cond.fieldLink RX1 idx RX1 (TX1 k).2.1 (TX1 k).2.2.1 ∈ lw_all) (hd : decode cc pc = .ok (.getfield idx, 3))
    (kk : W p l e R s m args below meth c H locs cells slots Q (F0 m (pc + 3) ls (v :: rest))) : W p l e R s m args below meth c H locs cells slots Q (F0 m pc ls (.ref h :: rest)) :=
  va_get (D := D) (ci := 1) (v := v) (C := RX1) (T := TX1) (N := 8) F.1 F.2.1 F.2.2.2.2 in_X1 F.2.2.2.1 Z.1 Z.2.1 0 rfl rfl k hk (F.2.2.2.2 _ hl) (fun _ h9 => by rw [hn] at h9; exact h9) hv hd kk
theorem ex_putA {h : Nat} {ad : Nat → Nat} {σ : XS} {a : Nat} (F : CallFix p m c cc nL s args lw_all RX0) (Z : ec_Z D G A s (XW G h ad σ) H locs) (hd : decode cc pc = .ok (.putfield 60, 3))
    (kk : ∀ (H1 : Heap) (locs1 : List Loc), ec_Z D G A s (XW G h ad (xsAw σ a)) H1 locs1 → W p l e R s m args below meth c H1 locs1 cells slots Q (F0 m (pc + 3) ls rest)) : W p l e R s m args below meth c H locs cells slots Q (F0 m pc ls (.int (nI a) :: .ref h :: rest)) :=
  va_put (D := D) (ci := 0) (v := .int (nI a)) (ty := .int) (C := RX0) (T := TX0) (N := 11) F.1 F.2.1 F.2.2.2.2 in_X0 tyX0 tyX0_ok nmX0 F.2.2.2.1 Z.1 Z.2.1 Z.2.2.1 Z.2.2.2 0 rfl rfl 8 (by decide) (F.2.2.2.2 _ q41) (fun _ h9 => h9) rfl (by decide +kernel) rfl rfl (Nat.le_of_ble_eq_true rfl) hd
    (fun H1 locs1 hP hD hS => kk H1 locs1 ⟨Z.1, hP, hD, hS⟩)
theorem ex_putL {h : Nat} {ad : Nat → Nat} {σ : XS} {a : Nat} (F : CallFix p m c cc nL s args lw_all RX0) (Z : ec_Z D G A s (XW G h ad σ) H locs) (hd : decode cc pc = .ok (.putfield 75, 3))
    (kk : ∀ (H1 : Heap) (locs1 : List Loc), ec_Z D G A s (XW G h ad (xsLC σ a (xcm σ))) H1 locs1 → W p l e R s m args below meth c H1 locs1 cells slots Q (F0 m (pc + 3) ls rest)) : W p l e R s m args below meth c H locs cells slots Q (F0 m pc ls (.int (nI a) :: .ref h :: rest)) :=
  va_put (D := D) (ci := 0) (v := .int (nI a)) (ty := .int) (C := RX0) (T := TX0) (N := 11) F.1 F.2.1 F.2.2.2.2 in_X0 tyX0 tyX0_ok nmX0 F.2.2.2.1 Z.1 Z.2.1 Z.2.2.1 Z.2.2.2 0 rfl rfl 9 (by decide) (F.2.2.2.2 _ q42) (fun _ h9 => h9) rfl (by decide +kernel) rfl rfl (Nat.le_of_ble_eq_true rfl) hd
    (fun H1 locs1 hP hD hS => kk H1 locs1 ⟨Z.1, hP, hD, hS⟩)
/-! ends -/
theorem ec_iret {S : Type} {Wf : S → va_W} {post : Int32 → S → Prop} {σ : S} {r : Int32} (F : CallFix p m c cc nL s args lw_all own) (hr : meth.sig.returnType = some .int) (hlk : meth.locks = false) (Z : ec_Z D G A s (Wf σ) H locs) (hp : post r σ) (hd : decode cc pc = .ok (.ireturn, 1)) :
    W p l e R s m args below meth c H locs 0 0 (MQ below (va_Qi post (ec_Pst D G A Wf) A) args s 0 0 A) (F0 m pc ls [.int r]) :=
  W.iret (v := r) F.1 F.2.1 hr (fun _ ht hW => ⟨⟨r, σ, rfl, hp, by rw [ht]; exact Z.2.1, va_K.moved hW.alike Z.1, Z.2.2.1⟩, Z.2.2.2.F ht⟩) Z.2.2.2.2.2 hd
theorem ec_zret {S : Type} {Wf : S → va_W} {post : Int32 → S → Prop} {σ : S} {r : Int32} (F : CallFix p m c cc nL s args lw_all own) (hr : meth.sig.returnType = some .boolean) (hlk : meth.locks = false) (hn : narrow .boolean (.int r) = .int r) (Z : ec_Z D G A s (Wf σ) H locs) (hp : post r σ) (hd : decode cc pc = .ok (.ireturn, 1)) :
    W p l e R s m args below meth c H locs 0 0 (MQ below (va_Qi post (ec_Pst D G A Wf) A) args s 0 0 A) (F0 m pc ls [.int r]) :=
  W.zret (v := r) F.1 F.2.1 hr hn (fun _ ht hW => ⟨⟨r, σ, rfl, hp, by rw [ht]; exact Z.2.1, va_K.moved hW.alike Z.1, Z.2.2.1⟩, Z.2.2.2.F ht⟩) Z.2.2.2.2.2 hd
theorem ec_vret {S : Type} {Wf : S → va_W} {post : S → Prop} {σ : S} (F : CallFix p m c cc nL s args lw_all own) (hr : meth.sig.returnType = none) (hlk : meth.locks = false) (Z : ec_Z D G A s (Wf σ) H locs) (hp : post σ) (hd : decode cc pc = .ok (.return_, 1)) :
    W p l e R s m args below meth c H locs 0 0 (MQ below (va_Qv post (ec_Pst D G A Wf) A) args s 0 0 A) (F0 m pc ls []) :=
  W.vret F.1 F.2.1 hr (fun _ ht hW => ⟨⟨σ, rfl, hp, by rw [ht]; exact Z.2.1, va_K.moved hW.alike Z.1, Z.2.2.1⟩, Z.2.2.2.F ht⟩) Z.2.2.2.2.2 hd
/-! calls inside a class: the callee's world is the caller's -/
theorem ec_blind {av : List Value} {ws0 : va_W} {sz : Nat} : FrameBlind (va_Pc av (ec_Pre D G ws0 sz)) := fun a U g mk q => by
  obtain ⟨q0, q1, qP, qK, qD⟩ := q
  exact ⟨q0, q1, qP, va_K.moved (u := U) (U := U.calling g mk a) (Vm.Alike.refl U.vm) qK, qD⟩
theorem ec_fr {ws0 : va_W} (Z : ec_Z D G A s ws0 H locs) (hA : ∀ q, s.heap.size ≤ q → A q) : ∀ q, va_A ws0 H.size q → A q := fun q h => by
  rcases h with ⟨k, e, hk⟩ | h
  · exact Z.2.2.1.2 k _ hk
  · exact hA q (Nat.le_trans Z.2.2.2.1 h)
theorem ec_calli {S : Type} {Wf : S → va_W} {y : MethodName} {cd : ByteArray} {nL' d n index h : Nat} {ret : Option FieldType} {As : List Value} {σ : S} {post : Int32 → S → Prop} {C : String} {st0 : List Value}
    (F : CallFix p m c cc nL s args lw_all own) (Z : ec_Z D G A s (Wf σ) H locs) (hA : ∀ q, s.heap.size ≤ q → A q) (hM : ec_Mi l y cd nL' ret d D G Wf h As σ H.size post) (cw : CallW R s args own C index y cd nL' ret (ws_ y cd nL' ret) (ec_rm d) 0 0 n)
    (hrc : ∃ cellB : Cell, H[h]? = some cellB ∧ cellB.vm.isStatics = false ∧ s.vm.findClass C = some cellB.cls) (hn : As.length = n) (hsz : ls.size = nL) (hst : st0 = As.reverse ++ .ref h :: rest) (hrm : (rest.map fun v => v.category).sum ≤ 8) (hd : decode cc pc = .ok (.invokevirtual index, 3)) (hR : cells ≤ R.cells ∧ slots ≤ R.slots)
    (kk : ∀ (r : Int32) (σ' : S) (H1 : Heap) (locs1 : List Loc), post r σ' → ec_Z D G A s (Wf σ') H1 locs1 → W p l e R s m args below meth c H1 locs1 cells slots Q (F0 m (pc + 3) ls (.int r :: rest))) :
    W p l e R s m args below meth c H locs cells slots Q (F0 m pc ls st0) := by
  have hFc := ec_fr Z hA
  refine va_calli (va_runV (As := As) (rest := rest) F hM cw ⟨ec_blind, hrc, fun U hU hW => ⟨rfl, by rw [hU], by rw [hU]; exact Z.2.1, va_K.moved hW.alike Z.1, Z.2.2.1.weaken (fun _ _ _ _ => trivial)⟩⟩ rfl hn hsz hst (lv_room hrm) hd hR) Z.2.2.2 (fun q _ h => hFc q h) hFc (fun r u t H1 locs1 ht hvm hw1 hB hz1 hk1 hS => ?_)
  obtain ⟨hP1, hK1, hD1⟩ := hB
  rw [ht] at hP1
  exact kk r u H1 locs1 hw1 ⟨Z.1, hP1, hD1.weaken (fun _ _ _ h => hFc _ h), hS⟩
theorem ec_callv {S : Type} {Wf : S → va_W} {y : MethodName} {cd : ByteArray} {nL' d n index h : Nat} {As : List Value} {σ : S} {post : S → Prop} {C : String} {st0 : List Value}
    (F : CallFix p m c cc nL s args lw_all own) (Z : ec_Z D G A s (Wf σ) H locs) (hA : ∀ q, s.heap.size ≤ q → A q) (hM : ec_Mv l y cd nL' d D G Wf h As σ H.size post) (cw : CallW R s args own C index y cd nL' none (ws_ y cd nL' none) (ec_rm d) 0 0 n)
    (hrc : ∃ cellB : Cell, H[h]? = some cellB ∧ cellB.vm.isStatics = false ∧ s.vm.findClass C = some cellB.cls) (hn : As.length = n) (hsz : ls.size = nL) (hst : st0 = As.reverse ++ .ref h :: rest) (hrm : (rest.map fun v => v.category).sum ≤ 8) (hd : decode cc pc = .ok (.invokevirtual index, 3)) (hR : cells ≤ R.cells ∧ slots ≤ R.slots)
    (kk : ∀ (σ' : S) (H1 : Heap) (locs1 : List Loc), post σ' → ec_Z D G A s (Wf σ') H1 locs1 → W p l e R s m args below meth c H1 locs1 cells slots Q (F0 m (pc + 3) ls rest)) :
    W p l e R s m args below meth c H locs cells slots Q (F0 m pc ls st0) := by
  have hFc := ec_fr Z hA
  refine va_callv (va_runV (As := As) (rest := rest) F hM cw ⟨ec_blind, hrc, fun U hU hW => ⟨rfl, by rw [hU], by rw [hU]; exact Z.2.1, va_K.moved hW.alike Z.1, Z.2.2.1.weaken (fun _ _ _ _ => trivial)⟩⟩ rfl hn hsz hst (lv_room hrm) hd hR) Z.2.2.2 (fun q _ h => hFc q h) hFc (fun u t H1 locs1 ht hvm hw1 hB hz1 hk1 hS => ?_)
  obtain ⟨hP1, hK1, hD1⟩ := hB
  rw [ht] at hP1
  exact kk u H1 locs1 hw1 ⟨Z.1, hP1, hD1.weaken (fun _ _ _ h => hFc _ h), hS⟩
theorem ex_recv {h : Nat} {ad : Nat → Nat} {σ : XS} (Z : ec_Z D G A s (XW G h ad σ) H locs) : ∃ cellB : Cell, H[h]? = some cellB ∧ cellB.vm.isStatics = false ∧ s.vm.findClass RX0 = some cellB.cls := va_recv Z.1 Z.2.1 (ci := 0) (q0 := 0) rfl rfl
theorem em_recv {h : Nat} {ad : Nat → Nat} {τ : MS} (Z : ec_Z D G A s (MW G h ad τ) H locs) : ∃ cellB : Cell, H[h]? = some cellB ∧ cellB.vm.isStatics = false ∧ s.vm.findClass RX1 = some cellB.cls := va_recv Z.1 Z.2.1 (ci := 1) (q0 := 0) rfl rfl
end EcRows
end
section
/-! how a method's walk begins, with its end as a rule; loops that leave early -/
set_option maxRecDepth 100000
theorem ec_walk_i {S : Type} {l : Launch} {y : MethodName} {cd : ByteArray} {nL : Nat} {d : Nat} {D : va_G} {G : ec_G} {Wf : S → va_W} {h : Nat} {As : List Value} {σ : S} {sz : Nat} {post : Int32 → S → Prop} {ty : FieldType} (own : String)
    (hy : plainName y.cls = true) (ho : y.cls = own) (hn : (lg_sl (.ref h :: As)).length ≤ nL)
    (body : ∀ (p : Program) (e : Env) (s : State) (m : MethodId) (below : List Frame) (meth : Method) (c : Code) (A : Nat → Prop) (args : Array Value) (Q : State → Prop), CallFix p m c cd nL s args lw_all own →
      (∀ q, s.heap.size ≤ q → A q) →
      (∀ (r : Int32) (σ' : S) (H : Heap) (locs : List Loc) (pc : Nat) (ls : Array Slot), narrow ty (.int r) = .int r → ec_Z D G A s (Wf σ') H locs → post r σ' → decode cd pc = .ok (.ireturn, 1) → W p l e (ec_rm d) s m args below meth c H locs 0 0 Q (F0 m pc ls [.int r])) →
      ec_Z D G A s (Wf σ) s.heap [] → ∀ ls : Array Slot, lv_has ls nL (lv_args 0 (.ref h :: As)) →
      W p l e (ec_rm d) s m args below meth c s.heap [] 0 0 Q (F0 m 0 ls [])) :
    ec_Mi l y cd nL (some ty) d D G Wf h As σ sz post := by
  refine ec_enter_i own hy ho hn ?_
  intro p e s m below meth c A F hr hlk hA Z ls hl
  refine body p e s m below meth c A _ _ F hA ?_ Z ls hl
  intro r σ' H locs pc ls hn Z hp hd
  exact W.zret (v := r) F.1 F.2.1 hr hn (fun _ ht hW => ⟨⟨r, σ', rfl, hp, by rw [ht]; exact Z.2.1, va_K.moved hW.alike Z.1, Z.2.2.1⟩, Z.2.2.2.F ht⟩) Z.2.2.2.2.2 hd
theorem ec_walk_v {S : Type} {l : Launch} {y : MethodName} {cd : ByteArray} {nL : Nat} {d : Nat} {D : va_G} {G : ec_G} {Wf : S → va_W} {h : Nat} {As : List Value} {σ : S} {sz : Nat} {post : S → Prop} (own : String)
    (hy : plainName y.cls = true) (ho : y.cls = own) (hn : (lg_sl (.ref h :: As)).length ≤ nL)
    (body : ∀ (p : Program) (e : Env) (s : State) (m : MethodId) (below : List Frame) (meth : Method) (c : Code) (A : Nat → Prop) (args : Array Value) (Q : State → Prop), CallFix p m c cd nL s args lw_all own →
      (∀ q, s.heap.size ≤ q → A q) →
      (∀ (σ' : S) (H : Heap) (locs : List Loc) (pc : Nat) (ls : Array Slot), ec_Z D G A s (Wf σ') H locs → post σ' → decode cd pc = .ok (.return_, 1) → W p l e (ec_rm d) s m args below meth c H locs 0 0 Q (F0 m pc ls [])) →
      ec_Z D G A s (Wf σ) s.heap [] → ∀ ls : Array Slot, lv_has ls nL (lv_args 0 (.ref h :: As)) →
      W p l e (ec_rm d) s m args below meth c s.heap [] 0 0 Q (F0 m 0 ls [])) :
    ec_Mv l y cd nL d D G Wf h As σ sz post := by
  refine ec_enter_v own hy ho hn ?_
  intro p e s m below meth c A F hr hlk hA Z ls hl
  refine body p e s m below meth c A _ _ F hA ?_ Z ls hl
  intro σ' H locs pc ls Z hp hd
  exact ec_vret F hr hlk Z hp hd
/-- a loop of 12 turns that may leave early: n turns left at i -/
theorem ec_down (N : Nat) (P : Nat → Nat → Prop) (h0 : P 0 N) (hs : ∀ n i, i + (n + 1) = N → P n (i + 1) → P (n + 1) i) : ∀ n i, i + n = N → P n i := by
  intro n
  induction n with
  | zero =>
    intro i h
    have e : i = N := by omega
    rw [e]
    exact h0
  | succ n ih =>
    intro i h
    exact hs n i h (ih (i + 1) (by omega))
end
section
/-! small bounds for the walks -/
theorem ec_ha_lt {li : ec_A} (hli : ∀ i, i < 12 → li i < 4096) {w s : Nat} (hw : w < 12) (h : s < 4096) : ec_ha li w s < 4096 := by
  unfold ec_ha
  split
  · exact ec_or_lt h (hli w hw)
  · exact h
theorem ec_ha_lp {li : ec_A} (hli : ∀ i, i < 12 → li i < 4096) {s : Nat} (h : s < 4096) : ec_lp (ec_ha li) 12 0 s < 4096 :=
  ec_lp_inv (ec_ha li) (fun _ s => s < 4096) 12 (fun _ _ hw h => ec_ha_lt hli hw h) 12 0 s (by decide) h
theorem x_hang_lt {li : ec_A} (hli : ∀ i, i < 12 → li i < 4096) {k : Nat} (hk : k < 12) : x_hang li k < 4096 :=
  ec_lp_inv (fun _ s => ec_lp (ec_ha li) 12 0 s) (fun _ s => s < 4096) 12 (fun _ _ _ h => ec_ha_lp hli h) 12 0 (li k) (by decide) (hli k hk)
theorem ec_dp_lt {so lv : ec_A} (h : ∀ i, i < 12 → lv i < 13) {w d : Nat} (hw : w < 12) (hd : d < 13) : ec_dp so lv w d < 13 := by
  unfold ec_dp
  split
  · exact h w hw
  · exact hd
theorem ec_low_lt {lv : ec_A} {aw i : Nat} {b : Option Nat} (hi : i < 12) (h : ∀ j, b = some j → j < 12) : ∀ j, ec_low lv aw i b = some j → j < 12 := by
  intro j hj
  unfold ec_low at hj
  split at hj
  · cases b with
    | none => cases hj; exact hi
    | some q =>
      have hj : (if lv i < lv q then some i else some q) = some j := hj
      split at hj
      · cases hj; exact hi
      · cases hj; exact h _ rfl
  · exact h j hj
theorem ec_dp_1 {so lv : ec_A} {w d : Nat} (h : ¬ so w = 1) : ec_dp so lv w d = d := by simp [ec_dp, h]
theorem ec_dp_2 {so lv : ec_A} {w d : Nat} (h : lv w ≤ d) : ec_dp so lv w d = d := by
  unfold ec_dp
  rw [if_neg (fun g => absurd g.2 (Nat.not_lt.mpr h))]
theorem ec_dp_3 {so lv : ec_A} {w d : Nat} (h1 : so w = 1) (h2 : d < lv w) : ec_dp so lv w d = lv w := by
  unfold ec_dp
  rw [if_pos ⟨h1, h2⟩]
theorem x_F_lt {σ : XS} (h : XWF σ) {k : Nat} (hk : k < 12) : x_F σ k < 16 := ec_fm_lt (h.2.1 _ (h.2.2.2.1 k hk)) (h.2.1 _ (h.2.2.2.2.1 k hk))
theorem x_cl_0 (σ : XS) : ∀ i, i < 12 → (x_cl σ).1 i = 0 ∧ (x_cl σ).2 i = 0 := by
  have key := ec_lp_inv ec_cl (fun i z => ∀ j, j < i → z.1 j = 0 ∧ z.2 j = 0) 12 ?_ 12 0 (xli σ, xlv σ) (by decide) (fun j h => absurd h (Nat.not_lt_zero j))
  · exact key
  · intro i z _ h j hj
    unfold ec_cl
    by_cases e : j = i
    · subst e
      exact ⟨ec_up_s, ec_up_s⟩
    · exact ⟨(ec_up_n e).trans (h j (by omega)).1, (ec_up_n e).trans (h j (by omega)).2⟩
theorem x_cl_li (σ : XS) : ∀ i, i < 12 → (x_cl σ).1 i < 4096 := fun i hi => by rw [(x_cl_0 σ i hi).1]; decide
theorem x_cl_lv (σ : XS) (rk : ec_A) : ∀ i, i < 12 → (x_cl σ).2 i ≤ rk i + 1 := fun i hi => by rw [(x_cl_0 σ i hi).2]; exact Nat.zero_le _
theorem ec_lev13 {so sa sb rk v : ec_A} (hac : ec_Ac so sa sb rk) (h : ∀ w, w < 12 → v w ≤ rk w + 1) : ∀ w, w < 12 → v w < 13 := fun w hw => by
  have := hac.1 w hw
  have := h w hw
  omega
theorem ec_ls_lt {so sa sb li : ec_A} (ha : ∀ i, i < 12 → sa i < 12) (hb : ∀ i, i < 12 → sb i < 12) (h : ∀ i, i < 12 → li i < 4096) {w : Nat} (hw : w < 12) : ∀ i, i < 12 → ec_ls so sa sb w li i < 4096 := by
  unfold ec_ls
  split
  · have h1 : ∀ i, i < 12 → ec_up li (sa w) (li (sa w) ||| 2 ^ w) i < 4096 := ec_up_lt h (ec_or_lt (h _ (ha w hw)) (ec_pow_lt hw))
    exact ec_up_lt h1 (ec_or_lt (h1 _ (hb w hw)) (ec_pow_lt hw))
  · exact h
theorem xwf_df {σ : XS} (h : XWF σ) {k w o a b : Nat} (hw : w < 3) (ho : o < 9) (ha : a < 12) (hb : b < 12) : XWF (x_df σ k w o a b) := by
  obtain ⟨h1, h2, h3, h4, h5, h6, h7, h8, h9, h10, h11⟩ := h
  exact ⟨ec_up_lt h1 hw, h2, ec_up_lt h3 ho, ec_up_lt h4 ha, ec_up_lt h5 hb, h6, h7, h8, h9, h10, h11⟩
theorem xwf_connect {σ : XS} (h : XWF σ) {rk : ec_A} (hac : ec_Ac (xso σ) (xsa σ) (xsb σ) rk) : XWF (x_connect σ) := by
  obtain ⟨h1, h2, h3, h4, h5, h6, h7, h8, h9, h10, h11⟩ := h
  refine ⟨h1, h2, h3, h4, h5, h6, ?_, ?_, h9, h10, h11⟩
  · exact ec_lp_inv (ec_ls (xso σ) (xsa σ) (xsb σ)) (fun _ z => ∀ i, i < 12 → z i < 4096) 12 (fun _ _ hw h => ec_ls_lt h4 h5 h hw) 12 0 (x_cl σ).1 (by decide) (x_cl_li σ)
  · exact ec_lev13 hac (ec_lev_rds hac h4 h5 (x_cl_lv σ rk))
theorem xwf_aw {σ : XS} (h : XWF σ) {a : Nat} (ha : a < 4096) : XWF (xsAw σ a) := xwf_VA h h.2.1 ha
theorem xwf_ck {σ : XS} (h : XWF σ) {k v : Nat} (hv : v < 12) : XWF (xsCk σ (ec_up (xck σ) k v)) := by
  obtain ⟨h1, h2, h3, h4, h5, h6, h7, h8, h9, h10, h11⟩ := h
  exact ⟨h1, h2, h3, h4, h5, ec_up_lt h6 hv, h7, h8, h9, h10, h11⟩
theorem xwf_define {σ : XS} (h : XWF σ) {k w o a b : Nat} (hk : k < 12) (hw : w < 3) (ho : o < 9) (ha : a < 12) (hb : b < 12) {rk : ec_A} (hac : ec_Ac (ec_up (xso σ) k w) (ec_up (xsa σ) k a) (ec_up (xsb σ) k b) rk) : XWF (x_define σ k w o a b) := by
  have h2 := xwf_connect (xwf_df (k := k) h hw ho ha hb) hac
  refine xwf_settle ?_
  unfold x_wk
  split
  · exact xwf_aw h2 (ec_or_lt h2.2.2.2.2.2.2.2.2.1 (ec_pow_lt hk))
  · exact h2
end
section
/-! arguments -/
theorem ec_sg_nI {k : Nat} (hk : k < 12) : ec_sg (nI k) := ⟨nI_pos (by omega), nI_nlt (a := 11) (b := k) (by omega) (by decide)⟩
theorem ec_tm_neg {n : Int32} (h : n < 0) : ec_tm n = 0 := if_pos h
theorem ec_tm_big {n : Int32} (h : ¬ n < 0) (h2 : 16 < n) : ec_tm n = 16 := by
  unfold ec_tm
  rw [if_neg h, if_pos h2]
theorem ec_tm_mid {n : Int32} (h : ¬ n < 0) (h2 : ¬ 16 < n) : ec_tm n ≤ 16 ∧ n = nI (ec_tm n) := by
  obtain ⟨j, hj, e⟩ := nI_of2 (M := 16) (n := 16) (by decide) h (Int32.not_lt.mp h2)
  have e2 : ec_tm n = j := by
    unfold ec_tm
    rw [if_neg h, if_neg h2, e, nI_clamp (by omega)]
  rw [e2]
  exact ⟨hj, e⟩
theorem ec_tm_le (n : Int32) : ec_tm n ≤ 16 := by
  by_cases h : n < 0
  · rw [ec_tm_neg h]; decide
  · by_cases h2 : 16 < n
    · rw [ec_tm_big h h2]; decide
    · exact (ec_tm_mid h h2).1
theorem ec_ge0 {n : Int32} (h : ¬ 0 ≤ n) : n < 0 := Int32.not_le.mp h
theorem ec_ge1 {n : Int32} (h : 0 ≤ n) : ¬ n < 0 := Int32.not_lt.mpr h
theorem ec_le1 {n : Int32} (h : n ≤ nI 16) : ¬ 16 < n := Int32.not_lt.mpr h
theorem ec_le0 {n : Int32} (h : ¬ n ≤ nI 16) : 16 < n := Int32.not_le.mp h
theorem ec_le15 {n : Int32} (h : n ≤ nI 15) : ¬ 15 < n := Int32.not_lt.mpr h
theorem ec_le143 {n : Int32} (h : n ≤ nI 143) : ¬ 143 < n := Int32.not_lt.mpr h
theorem x_pu_wf {k v f : Nat} (hk : k < 12) (hv : v < 16) (hf : f < 16) (i : Nat) {z : Nat × XS} (h : XWF z.2) : XWF (x_pu k v f i z).2 := xwf_change (xwf_change h hk hv) hk hf
end
section
/-! EventCircuit: leaves -/
set_option maxRecDepth 100000
set_option maxHeartbeats 4000000 in
theorem x_sig1 (l : Launch) (D : va_G) (G : ec_G) (h : Nat) (ad : Nat → Nat) (sz : Nat) (σ : XS) (x : Int32) (hx : ec_sg x) : ec_Mi l yX0_isSignal cX0_isSignal 2 (some .boolean) 0 D G (XW G h ad) h [.int x] σ sz (fun r σ' => r = nI 1 ∧ σ' = σ) := by
  refine ec_walk_i RX0 (by decide) rfl (Nat.le_of_ble_eq_true rfl) ?_
  intro p e s m below meth c A args Q F hA ret Z ls hl
  have hl : lv_has ls 2 [(0, .ref h), (1, .int x)] := hl
  refine lv_iload_n F.1 F.2.1 dX0_isSignal_0 rfl (lv_at hl 1 rfl) ?_
  refine lv_if_lt (tgt := 14) F.1 F.2.1 dX0_isSignal_1 (by decide) (fun c_1 => ?_) (fun c_1 => ?_)
  · exact absurd c_1 hx.1
  · skip
    refine lv_iload_n F.1 F.2.1 dX0_isSignal_4 rfl (lv_at hl 1 rfl) ?_
    refine lv_bipush (v := (nI 11)) F.1 F.2.1 dX0_isSignal_5 (by decide) ?_
    refine lv_icmp_gt (tgt := 14) F.1 F.2.1 dX0_isSignal_7 (by decide) (fun c_2 => ?_) (fun c_2 => ?_)
    · exact absurd c_2 hx.2
    · skip
      refine lv_iconst (v := (nI 1)) F.1 F.2.1 dX0_isSignal_10 (by decide) ?_
      refine lv_goto (tgt := 15) F.1 F.2.1 dX0_isSignal_11 (by decide) ?_
      refine ret _ _ _ _ _ _ rfl Z ?_ dX0_isSignal_15
      exact ⟨rfl, rfl⟩
set_option maxHeartbeats 4000000 in
theorem x_sig0 (l : Launch) (D : va_G) (G : ec_G) (h : Nat) (ad : Nat → Nat) (sz : Nat) (σ : XS) (x : Int32) (hx : ¬ ec_sg x) : ec_Mi l yX0_isSignal cX0_isSignal 2 (some .boolean) 0 D G (XW G h ad) h [.int x] σ sz (fun r σ' => r = nI 0 ∧ σ' = σ) := by
  refine ec_walk_i RX0 (by decide) rfl (Nat.le_of_ble_eq_true rfl) ?_
  intro p e s m below meth c A args Q F hA ret Z ls hl
  have hl : lv_has ls 2 [(0, .ref h), (1, .int x)] := hl
  refine lv_iload_n F.1 F.2.1 dX0_isSignal_0 rfl (lv_at hl 1 rfl) ?_
  refine lv_if_lt (tgt := 14) F.1 F.2.1 dX0_isSignal_1 (by decide) (fun c_1 => ?_) (fun c_1 => ?_)
  · skip
    refine lv_iconst (v := (nI 0)) F.1 F.2.1 dX0_isSignal_14 (by decide) ?_
    refine ret _ _ _ _ _ _ rfl Z ?_ dX0_isSignal_15
    exact ⟨rfl, rfl⟩
  · skip
    refine lv_iload_n F.1 F.2.1 dX0_isSignal_4 rfl (lv_at hl 1 rfl) ?_
    refine lv_bipush (v := (nI 11)) F.1 F.2.1 dX0_isSignal_5 (by decide) ?_
    refine lv_icmp_gt (tgt := 14) F.1 F.2.1 dX0_isSignal_7 (by decide) (fun c_2 => ?_) (fun c_2 => ?_)
    · skip
      refine lv_iconst (v := (nI 0)) F.1 F.2.1 dX0_isSignal_14 (by decide) ?_
      refine ret _ _ _ _ _ _ rfl Z ?_ dX0_isSignal_15
      exact ⟨rfl, rfl⟩
    · exact absurd ⟨c_1, c_2⟩ hx
set_option maxHeartbeats 4000000 in
theorem x_put_m (l : Launch) (D : va_G) (G : ec_G) (h : Nat) (ad : Nat → Nat) (sz : Nat) (σ : XS) (k v : Nat) (hk : k < 12) (hv : v < 16) (hW : XWF σ) : ec_Mv l yX0_put cX0_put 3 0 D G (XW G h ad) h [.int (nI k), .int (nI v)] σ sz (fun σ' => σ' = x_put σ k v) := by
  refine ec_walk_v RX0 (by decide) rfl (Nat.le_of_ble_eq_true rfl) ?_
  intro p e s m below meth c A args Q F hA ret Z ls hl
  have hl : lv_has ls 3 [(0, .ref h), (1, .int (nI k)), (2, .int (nI v))] := hl
  refine lv_aload_n F.1 F.2.1 dX0_put_0 rfl (lv_at hl 0 rfl) ?_
  refine ex_get F Z 1 (by decide) rfl rfl q34 dX0_put_1 ?_
  refine lv_iload_n F.1 F.2.1 dX0_put_4 rfl (lv_at hl 1 rfl) ?_
  refine en_bald F Z 2 (xvl σ) rfl hk dX0_put_5 ?_
  refine lv_iload_n F.1 F.2.1 dX0_put_6 rfl (lv_at hl 2 rfl) ?_
  refine en_icmp_ne (tgt := 11) F (Nat.lt_of_lt_of_le (hW.2.1 _ hk) (by decide)) (Nat.lt_of_lt_of_le hv (by decide)) dX0_put_7 (by decide) (fun c_1 => ?_) (fun c_1 => ?_)
  · skip
    refine lv_aload_n F.1 F.2.1 dX0_put_11 rfl (lv_at hl 0 rfl) ?_
    refine ex_get F Z 1 (by decide) rfl rfl q34 dX0_put_12 ?_
    refine lv_iload_n F.1 F.2.1 dX0_put_15 rfl (lv_at hl 1 rfl) ?_
    refine lv_iload_n F.1 F.2.1 dX0_put_16 rfl (lv_at hl 2 rfl) ?_
    refine en_i2b F (Nat.lt_of_lt_of_le hv (by decide)) dX0_put_17 ?_
    refine en_bast (ws' := XW G h ad (xsVA σ (ec_up (xvl σ) k v) (xaw σ))) F Z 2 (xvl σ) rfl hk (Nat.lt_of_lt_of_le hv (by decide)) rfl dX0_put_18 (fun H locs Z => ?_)
    refine lv_aload_n F.1 F.2.1 dX0_put_19 rfl (lv_at hl 0 rfl) ?_
    refine lv_dup F.1 F.2.1 dX0_put_20 rfl ?_
    refine ex_get (v := .int (nI (xaw σ))) F Z 8 (by decide) rfl rfl q41 dX0_put_21 ?_
    refine lv_aload_n F.1 F.2.1 dX0_put_24 rfl (lv_at hl 0 rfl) ?_
    refine ex_get F Z 6 (by decide) rfl rfl q39 dX0_put_25 ?_
    refine lv_iload_n F.1 F.2.1 dX0_put_28 rfl (lv_at hl 1 rfl) ?_
    refine en_iald F Z 7 (xli σ) rfl hk dX0_put_29 ?_
    refine en_ior F dX0_put_30 ?_
    refine ex_putA (a := (xaw σ) ||| (xli σ k)) F Z dX0_put_31 (fun H locs Z => ?_)
    have Z : ec_Z D G A s (XW G h ad (xsVA σ (ec_up (xvl σ) k v) ((xaw σ) ||| (xli σ k)))) H locs := Z
    refine ret _ _ _ _ _ Z ?_ dX0_put_34
    simp [x_put, c_1]
  · skip
    refine ret _ _ _ _ _ Z ?_ dX0_put_10
    simp [x_put, c_1]
set_option maxHeartbeats 4000000 in
theorem x_formula_m (l : Launch) (D : va_G) (G : ec_G) (h : Nat) (ad : Nat → Nat) (sz : Nat) (σ : XS) (k : Nat) (hk : k < 12) (hW : XWF σ) : ec_Mi l yX0_formulaOf cX0_formulaOf 5 (some .int) 0 D G (XW G h ad) h [.int (nI k)] σ sz (fun r σ' => r = nI (x_F σ k) ∧ σ' = σ) := by
  refine ec_walk_i RX0 (by decide) rfl (Nat.le_of_ble_eq_true rfl) ?_
  intro p e s m below meth c A args Q F hA ret Z ls hl
  have hl : lv_has ls 5 [(0, .ref h), (1, .int (nI k))] := hl
  refine lv_aload_n F.1 F.2.1 dX0_formulaOf_0 rfl (lv_at hl 0 rfl) ?_
  refine ex_get F Z 1 (by decide) rfl rfl q34 dX0_formulaOf_1 ?_
  refine lv_aload_n F.1 F.2.1 dX0_formulaOf_4 rfl (lv_at hl 0 rfl) ?_
  refine ex_get F Z 3 (by decide) rfl rfl q36 dX0_formulaOf_5 ?_
  refine lv_iload_n F.1 F.2.1 dX0_formulaOf_8 rfl (lv_at hl 1 rfl) ?_
  refine en_bald F Z 4 (xsa σ) rfl hk dX0_formulaOf_9 ?_
  refine en_bald F Z 2 (xvl σ) rfl (hW.2.2.2.1 _ hk) dX0_formulaOf_10 ?_
  refine lv_istore_n (lv' := [(2, .int (nI (xvl σ (xsa σ k)))), (0, .ref h), (1, .int (nI k))]) F.1 F.2.1 dX0_formulaOf_11 rfl hl (by decide) rfl (fun ls hl => ?_)
  refine lv_aload_n F.1 F.2.1 dX0_formulaOf_12 rfl (lv_at hl 1 rfl) ?_
  refine ex_get F Z 1 (by decide) rfl rfl q34 dX0_formulaOf_13 ?_
  refine lv_aload_n F.1 F.2.1 dX0_formulaOf_16 rfl (lv_at hl 1 rfl) ?_
  refine ex_get F Z 4 (by decide) rfl rfl q37 dX0_formulaOf_17 ?_
  refine lv_iload_n F.1 F.2.1 dX0_formulaOf_20 rfl (lv_at hl 2 rfl) ?_
  refine en_bald F Z 5 (xsb σ) rfl hk dX0_formulaOf_21 ?_
  refine en_bald F Z 2 (xvl σ) rfl (hW.2.2.2.2.1 _ hk) dX0_formulaOf_22 ?_
  refine lv_istore_n (lv' := [(3, .int (nI (xvl σ (xsb σ k)))), (2, .int (nI (xvl σ (xsa σ k)))), (0, .ref h), (1, .int (nI k))]) F.1 F.2.1 dX0_formulaOf_23 rfl hl (by decide) rfl (fun ls hl => ?_)
  refine lv_aload_n F.1 F.2.1 dX0_formulaOf_24 rfl (lv_at hl 2 rfl) ?_
  refine ex_get F Z 2 (by decide) rfl rfl q35 dX0_formulaOf_25 ?_
  refine lv_iload_n F.1 F.2.1 dX0_formulaOf_28 rfl (lv_at hl 3 rfl) ?_
  refine en_bald F Z 3 (xop σ) rfl hk dX0_formulaOf_29 ?_
  refine lv_istore (lv' := [(4, .int (nI (xop σ k))), (3, .int (nI (xvl σ (xsb σ k)))), (2, .int (nI (xvl σ (xsa σ k)))), (0, .ref h), (1, .int (nI k))]) F.1 F.2.1 dX0_formulaOf_30 hl (by decide) rfl (fun ls hl => ?_)
  refine lv_iload F.1 F.2.1 dX0_formulaOf_32 (lv_at hl 0 rfl) ?_
  refine en_if_ne (tgt := 41) F (Nat.lt_of_lt_of_le (hW.2.2.1 _ hk) (by decide)) dX0_formulaOf_34 (by decide) (fun c_1 => ?_) (fun c_1 => ?_)
  · skip
    refine lv_iload F.1 F.2.1 dX0_formulaOf_41 (lv_at hl 0 rfl) ?_
    refine lv_iconst (v := (nI 1)) F.1 F.2.1 dX0_formulaOf_43 (by decide) ?_
    refine en_icmp_ne (tgt := 51) F (Nat.lt_of_lt_of_le (hW.2.2.1 _ hk) (by decide)) (by omega) dX0_formulaOf_44 (by decide) (fun c_2 => ?_) (fun c_2 => ?_)
    · skip
      refine lv_iload F.1 F.2.1 dX0_formulaOf_51 (lv_at hl 0 rfl) ?_
      refine lv_iconst (v := (nI 2)) F.1 F.2.1 dX0_formulaOf_53 (by decide) ?_
      refine en_icmp_ne (tgt := 61) F (Nat.lt_of_lt_of_le (hW.2.2.1 _ hk) (by decide)) (by omega) dX0_formulaOf_54 (by decide) (fun c_3 => ?_) (fun c_3 => ?_)
      · skip
        refine lv_iload F.1 F.2.1 dX0_formulaOf_61 (lv_at hl 0 rfl) ?_
        refine lv_iconst (v := (nI 3)) F.1 F.2.1 dX0_formulaOf_63 (by decide) ?_
        refine en_icmp_ne (tgt := 74) F (Nat.lt_of_lt_of_le (hW.2.2.1 _ hk) (by decide)) (by omega) dX0_formulaOf_64 (by decide) (fun c_4 => ?_) (fun c_4 => ?_)
        · skip
          refine lv_iload F.1 F.2.1 dX0_formulaOf_74 (lv_at hl 0 rfl) ?_
          refine lv_iconst (v := (nI 4)) F.1 F.2.1 dX0_formulaOf_76 (by decide) ?_
          refine en_icmp_ne (tgt := 87) F (Nat.lt_of_lt_of_le (hW.2.2.1 _ hk) (by decide)) (by omega) dX0_formulaOf_77 (by decide) (fun c_5 => ?_) (fun c_5 => ?_)
          · skip
            refine lv_iload F.1 F.2.1 dX0_formulaOf_87 (lv_at hl 0 rfl) ?_
            refine lv_iconst (v := (nI 5)) F.1 F.2.1 dX0_formulaOf_89 (by decide) ?_
            refine en_icmp_ne (tgt := 104) F (Nat.lt_of_lt_of_le (hW.2.2.1 _ hk) (by decide)) (by omega) dX0_formulaOf_90 (by decide) (fun c_6 => ?_) (fun c_6 => ?_)
            · skip
              refine lv_iload F.1 F.2.1 dX0_formulaOf_104 (lv_at hl 0 rfl) ?_
              refine lv_bipush (v := (nI 6)) F.1 F.2.1 dX0_formulaOf_106 (by decide) ?_
              refine en_icmp_ne (tgt := 113) F (Nat.lt_of_lt_of_le (hW.2.2.1 _ hk) (by decide)) (by omega) dX0_formulaOf_108 (by decide) (fun c_7 => ?_) (fun c_7 => ?_)
              · skip
                refine lv_iload F.1 F.2.1 dX0_formulaOf_113 (lv_at hl 0 rfl) ?_
                refine lv_bipush (v := (nI 7)) F.1 F.2.1 dX0_formulaOf_115 (by decide) ?_
                refine en_icmp_ne (tgt := 125) F (Nat.lt_of_lt_of_le (hW.2.2.1 _ hk) (by decide)) (by omega) dX0_formulaOf_117 (by decide) (fun c_8 => ?_) (fun c_8 => ?_)
                · skip
                  refine lv_iload_n F.1 F.2.1 dX0_formulaOf_125 rfl (lv_at hl 2 rfl) ?_
                  refine en_if_ne (tgt := 133) F (Nat.lt_of_lt_of_le (hW.2.1 _ (hW.2.2.2.1 _ hk)) (by decide)) dX0_formulaOf_126 (by decide) (fun c_9 => ?_) (fun c_9 => ?_)
                  · skip
                    refine lv_bipush (v := (nI 15)) F.1 F.2.1 dX0_formulaOf_133 (by decide) ?_
                    refine lv_iload_n F.1 F.2.1 dX0_formulaOf_135 rfl (lv_at hl 1 rfl) ?_
                    refine en_isub F (Nat.le_of_lt_succ (hW.2.1 _ (hW.2.2.2.2.1 _ hk))) dX0_formulaOf_136 ?_
                    refine ret _ _ _ _ _ _ rfl Z ?_ dX0_formulaOf_137
                    exact ⟨congrArg nI (by simp [x_F, ec_fm, c_1, c_2, c_3, c_4, c_5, c_6, c_7, c_8, c_9]), rfl⟩
                  · skip
                    refine lv_iload_n F.1 F.2.1 dX0_formulaOf_129 rfl (lv_at hl 1 rfl) ?_
                    refine lv_goto (tgt := 137) F.1 F.2.1 dX0_formulaOf_130 (by decide) ?_
                    refine ret _ _ _ _ _ _ rfl Z ?_ dX0_formulaOf_137
                    exact ⟨congrArg nI (by simp [x_F, ec_fm, c_1, c_2, c_3, c_4, c_5, c_6, c_7, c_8, c_9]), rfl⟩
                · skip
                  refine lv_bipush (v := (nI 15)) F.1 F.2.1 dX0_formulaOf_120 (by decide) ?_
                  refine lv_iload_n F.1 F.2.1 dX0_formulaOf_122 rfl (lv_at hl 2 rfl) ?_
                  refine en_isub F (Nat.le_of_lt_succ (hW.2.1 _ (hW.2.2.2.1 _ hk))) dX0_formulaOf_123 ?_
                  refine ret _ _ _ _ _ _ rfl Z ?_ dX0_formulaOf_124
                  exact ⟨congrArg nI (by simp [x_F, ec_fm, c_1, c_2, c_3, c_4, c_5, c_6, c_7, c_8]), rfl⟩
              · skip
                refine lv_iload_n F.1 F.2.1 dX0_formulaOf_111 rfl (lv_at hl 2 rfl) ?_
                refine ret _ _ _ _ _ _ rfl Z ?_ dX0_formulaOf_112
                exact ⟨congrArg nI (by simp [x_F, ec_fm, c_1, c_2, c_3, c_4, c_5, c_6, c_7]), rfl⟩
            · skip
              refine lv_iload_n F.1 F.2.1 dX0_formulaOf_93 rfl (lv_at hl 2 rfl) ?_
              refine lv_iload_n F.1 F.2.1 dX0_formulaOf_94 rfl (lv_at hl 1 rfl) ?_
              refine en_icmp_ge (tgt := 102) F (Nat.lt_of_lt_of_le (hW.2.1 _ (hW.2.2.2.1 _ hk)) (by decide)) (Nat.lt_of_lt_of_le (hW.2.1 _ (hW.2.2.2.2.1 _ hk)) (by decide)) dX0_formulaOf_95 (by decide) (fun c_10 => ?_) (fun c_10 => ?_)
              · skip
                refine lv_iconst (v := (nI 0)) F.1 F.2.1 dX0_formulaOf_102 (by decide) ?_
                refine ret _ _ _ _ _ _ rfl Z ?_ dX0_formulaOf_103
                exact ⟨congrArg nI (by simp [x_F, ec_fm, c_1, c_2, c_3, c_4, c_5, c_6, c_10, Nat.not_lt.mpr c_10]), rfl⟩
              · skip
                refine lv_iconst (v := (nI 1)) F.1 F.2.1 dX0_formulaOf_98 (by decide) ?_
                refine lv_goto (tgt := 103) F.1 F.2.1 dX0_formulaOf_99 (by decide) ?_
                refine ret _ _ _ _ _ _ rfl Z ?_ dX0_formulaOf_103
                exact ⟨congrArg nI (by simp [x_F, ec_fm, c_1, c_2, c_3, c_4, c_5, c_6, c_10]), rfl⟩
          · skip
            refine lv_iload_n F.1 F.2.1 dX0_formulaOf_80 rfl (lv_at hl 2 rfl) ?_
            refine lv_iload_n F.1 F.2.1 dX0_formulaOf_81 rfl (lv_at hl 1 rfl) ?_
            refine lv_isub F.1 F.2.1 dX0_formulaOf_82 ?_
            refine lv_bipush (v := (nI 15)) F.1 F.2.1 dX0_formulaOf_83 (by decide) ?_
            refine en_iand15 F (hW.2.1 _ (hW.2.2.2.1 _ hk)) (hW.2.1 _ (hW.2.2.2.2.1 _ hk)) dX0_formulaOf_85 ?_
            refine ret _ _ _ _ _ _ rfl Z ?_ dX0_formulaOf_86
            exact ⟨congrArg nI (by simp [x_F, ec_fm, c_1, c_2, c_3, c_4, c_5]), rfl⟩
        · skip
          refine lv_iload_n F.1 F.2.1 dX0_formulaOf_67 rfl (lv_at hl 2 rfl) ?_
          refine lv_iload_n F.1 F.2.1 dX0_formulaOf_68 rfl (lv_at hl 1 rfl) ?_
          refine en_iadd F dX0_formulaOf_69 ?_
          refine lv_bipush (v := (nI 15)) F.1 F.2.1 dX0_formulaOf_70 (by decide) ?_
          refine en_iand F dX0_formulaOf_72 ?_
          refine ret _ _ _ _ _ _ rfl Z ?_ dX0_formulaOf_73
          exact ⟨congrArg nI (by simp [x_F, ec_fm, c_1, c_2, c_3, c_4]), rfl⟩
      · skip
        refine lv_iload_n F.1 F.2.1 dX0_formulaOf_57 rfl (lv_at hl 2 rfl) ?_
        refine lv_iload_n F.1 F.2.1 dX0_formulaOf_58 rfl (lv_at hl 1 rfl) ?_
        refine en_ixor F dX0_formulaOf_59 ?_
        refine ret _ _ _ _ _ _ rfl Z ?_ dX0_formulaOf_60
        exact ⟨congrArg nI (by simp [x_F, ec_fm, c_1, c_2, c_3]), rfl⟩
    · skip
      refine lv_iload_n F.1 F.2.1 dX0_formulaOf_47 rfl (lv_at hl 2 rfl) ?_
      refine lv_iload_n F.1 F.2.1 dX0_formulaOf_48 rfl (lv_at hl 1 rfl) ?_
      refine en_ior F dX0_formulaOf_49 ?_
      refine ret _ _ _ _ _ _ rfl Z ?_ dX0_formulaOf_50
      exact ⟨congrArg nI (by simp [x_F, ec_fm, c_1, c_2]), rfl⟩
  · skip
    refine lv_iload_n F.1 F.2.1 dX0_formulaOf_37 rfl (lv_at hl 2 rfl) ?_
    refine lv_iload_n F.1 F.2.1 dX0_formulaOf_38 rfl (lv_at hl 1 rfl) ?_
    refine en_iand F dX0_formulaOf_39 ?_
    refine ret _ _ _ _ _ _ rfl Z ?_ dX0_formulaOf_40
    exact ⟨congrArg nI (by simp [x_F, ec_fm, c_1]), rfl⟩
set_option maxHeartbeats 4000000 in
theorem x_clock_m (l : Launch) (D : va_G) (G : ec_G) (h : Nat) (ad : Nat → Nat) (sz : Nat) (σ : XS) (k : Nat) (hk : k < 12) (hW : XWF σ) : ec_Mi l yX0_isClock cX0_isClock 3 (some .boolean) 0 D G (XW G h ad) h [.int (nI k)] σ sz (fun r σ' => r = nI (ec_ck (xso σ) (xck σ) k 12 0).toNat ∧ σ' = σ) := by
  refine ec_walk_i RX0 (by decide) rfl (Nat.le_of_ble_eq_true rfl) ?_
  intro p e s m below meth c A args Q F hA ret Z ls hl
  have hl : lv_has ls 3 [(0, .ref h), (1, .int (nI k))] := hl
  refine lv_iconst (v := (nI 0)) F.1 F.2.1 dX0_isClock_0 (by decide) ?_
  refine lv_istore_n (lv' := [(2, .int (nI 0)), (0, .ref h), (1, .int (nI k))]) F.1 F.2.1 dX0_isClock_1 rfl hl (by decide) rfl (fun ls hl => ?_)
  refine ec_down 12 (fun n i => ec_ck (xso σ) (xck σ) k n i = ec_ck (xso σ) (xck σ) k 12 0 → ∀ (H : Heap) (locs : List Loc), ec_Z D G A s (XW G h ad σ) H locs → ∀ ls : Array Slot, lv_has ls 3 [(2, .int (nI i)), (0, .ref h), (1, .int (nI k))] → W p l e (ec_rm 0) s m args below meth c H locs 0 0 Q (F0 m 2 ls [])) ?_ ?_ 12 0 (by decide) rfl _ _ Z ls (lv_sub hl [0, 1, 2] rfl)
  · intro he H locs Z ls hl
    refine lv_iload_n F.1 F.2.1 dX0_isClock_2 rfl (lv_at hl 0 rfl) ?_
    refine lv_bipush (v := (nI 12)) F.1 F.2.1 dX0_isClock_3 (by decide) ?_
    refine en_icmp_ge (tgt := 36) F (by omega) (by omega) dX0_isClock_5 (by decide) (fun c_1 => ?_) (fun c_1 => ?_)
    · skip
      refine lv_iconst (v := (nI 0)) F.1 F.2.1 dX0_isClock_36 (by decide) ?_
      refine ret _ _ _ _ _ _ rfl Z ?_ dX0_isClock_37
      exact ⟨by rw [← he]; rfl, rfl⟩
    · exact absurd c_1 (by decide)
  · intro n i hin kk he H locs Z ls hl
    have hi : i < 12 := by omega
    refine lv_iload_n F.1 F.2.1 dX0_isClock_2 rfl (lv_at hl 0 rfl) ?_
    refine lv_bipush (v := (nI 12)) F.1 F.2.1 dX0_isClock_3 (by decide) ?_
    refine en_icmp_ge (tgt := 36) F (Nat.lt_of_lt_of_le hi (by decide)) (by omega) dX0_isClock_5 (by decide) (fun c_2 => ?_) (fun c_2 => ?_)
    · exact absurd hi (Nat.not_lt.mpr c_2)
    · skip
      refine lv_aload_n F.1 F.2.1 dX0_isClock_8 rfl (lv_at hl 1 rfl) ?_
      refine ex_get F Z 0 (by decide) rfl rfl q33 dX0_isClock_9 ?_
      refine lv_iload_n F.1 F.2.1 dX0_isClock_12 rfl (lv_at hl 0 rfl) ?_
      refine en_bald F Z 1 (xso σ) rfl hi dX0_isClock_13 ?_
      refine lv_iconst (v := (nI 2)) F.1 F.2.1 dX0_isClock_14 (by decide) ?_
      refine en_icmp_ne (tgt := 30) F (Nat.lt_of_lt_of_le (hW.1 _ hi) (by decide)) (by omega) dX0_isClock_15 (by decide) (fun c_3 => ?_) (fun c_3 => ?_)
      · skip
        refine en_iinc (lv' := [(2, .int (nI (i + 1))), (0, .ref h), (1, .int (nI k))]) F dX0_isClock_30 hl (k := 0) rfl (by decide) rfl (fun ls hl => ?_)
        refine lv_goto (tgt := 2) F.1 F.2.1 dX0_isClock_33 (by decide) ?_
        exact kk (by rw [← he]; simp [ec_ck, c_3]) _ _ Z ls (lv_sub hl [0, 1, 2] rfl)
      · skip
        refine lv_aload_n F.1 F.2.1 dX0_isClock_18 rfl (lv_at hl 1 rfl) ?_
        refine ex_get F Z 5 (by decide) rfl rfl q38 dX0_isClock_19 ?_
        refine lv_iload_n F.1 F.2.1 dX0_isClock_22 rfl (lv_at hl 0 rfl) ?_
        refine en_bald F Z 6 (xck σ) rfl hi dX0_isClock_23 ?_
        refine lv_iload_n F.1 F.2.1 dX0_isClock_24 rfl (lv_at hl 2 rfl) ?_
        refine en_icmp_ne (tgt := 30) F (Nat.lt_of_lt_of_le (hW.2.2.2.2.2.1 _ hi) (by decide)) (Nat.lt_of_lt_of_le hk (by decide)) dX0_isClock_25 (by decide) (fun c_4 => ?_) (fun c_4 => ?_)
        · skip
          refine en_iinc (lv' := [(2, .int (nI (i + 1))), (0, .ref h), (1, .int (nI k))]) F dX0_isClock_30 hl (k := 0) rfl (by decide) rfl (fun ls hl => ?_)
          refine lv_goto (tgt := 2) F.1 F.2.1 dX0_isClock_33 (by decide) ?_
          exact kk (by rw [← he]; simp [ec_ck, c_3, c_4]) _ _ Z ls (lv_sub hl [0, 1, 2] rfl)
        · skip
          refine lv_iconst (v := (nI 1)) F.1 F.2.1 dX0_isClock_28 (by decide) ?_
          refine ret _ _ _ _ _ _ rfl Z ?_ dX0_isClock_29
          exact ⟨by rw [← he]; simp [ec_ck, c_3, c_4], rfl⟩
end
section
/-! EventCircuit: loops without calls -/
set_option maxRecDepth 100000
set_option maxHeartbeats 4000000 in
theorem x_low_m (l : Launch) (D : va_G) (G : ec_G) (h : Nat) (ad : Nat → Nat) (sz : Nat) (σ : XS) (hW : XWF σ) : ec_Mi l yX0_lowestAwake cX0_lowestAwake 3 (some .int) 0 D G (XW G h ad) h [] σ sz (fun r σ' => r = ec_bI (x_low (xlv σ) (xaw σ)) ∧ σ' = σ) := by
  refine ec_walk_i RX0 (by decide) rfl (Nat.le_of_ble_eq_true rfl) ?_
  intro p e s m below meth c A args Q F hA ret Z ls hl
  have hl : lv_has ls 3 [(0, .ref h)] := hl
  refine lv_iconst (v := (-1)) F.1 F.2.1 dX0_lowestAwake_0 (by decide) ?_
  refine lv_istore_n (lv' := [(1, .int (-1)), (0, .ref h)]) F.1 F.2.1 dX0_lowestAwake_1 rfl hl (by decide) rfl (fun ls hl => ?_)
  refine lv_iconst (v := (nI 0)) F.1 F.2.1 dX0_lowestAwake_2 (by decide) ?_
  refine lv_istore_n (lv' := [(2, .int (nI 0)), (1, .int (-1)), (0, .ref h)]) F.1 F.2.1 dX0_lowestAwake_3 rfl hl (by decide) rfl (fun ls hl => ?_)
  refine ec_lp_run (S := Option Nat) (ec_low (xlv σ) (xaw σ)) (fun i z => ∀ j, z = some j → j < 12) (fun i z => ∀ (H : Heap) (locs : List Loc), ec_Z D G A s (XW G h ad σ) H locs → ∀ ls : Array Slot, lv_has ls 3 [(1, .int (ec_bI z)), (2, .int (nI i)), (0, .ref h)] → W p l e (ec_rm 0) s m args below meth c H locs 0 0 Q (F0 m 4 ls [])) 12 (fun _ _ hi h => ec_low_lt hi h) ?_ 12 0 none (Nat.zero_add _) (fun _ h => by cases h) ?_ _ _ Z ls (lv_sub hl [1, 0, 2] rfl)
  · intro i z hi_i hz_i kk_i H locs Z ls hl
    refine lv_iload_n F.1 F.2.1 dX0_lowestAwake_4 rfl (lv_at hl 1 rfl) ?_
    refine lv_bipush (v := (nI 12)) F.1 F.2.1 dX0_lowestAwake_5 (by decide) ?_
    refine en_icmp_ge (tgt := 48) F (Nat.lt_of_lt_of_le hi_i (by decide)) (by omega) dX0_lowestAwake_7 (by decide) (fun c_1 => ?_) (fun c_1 => ?_)
    · exact absurd hi_i (Nat.not_lt.mpr c_1)
    · skip
      refine lv_aload_n F.1 F.2.1 dX0_lowestAwake_10 rfl (lv_at hl 2 rfl) ?_
      refine ex_get F Z 8 (by decide) rfl rfl q41 dX0_lowestAwake_11 ?_
      refine lv_iload_n F.1 F.2.1 dX0_lowestAwake_14 rfl (lv_at hl 1 rfl) ?_
      refine en_ishr F (Nat.lt_of_lt_of_le hW.2.2.2.2.2.2.2.2.1 (by decide)) (Nat.lt_of_lt_of_le hi_i (by decide)) dX0_lowestAwake_15 ?_
      refine lv_iconst (v := (nI 1)) F.1 F.2.1 dX0_lowestAwake_16 (by decide) ?_
      refine en_iand1 F dX0_lowestAwake_17 ?_
      refine en_ifb_eq (tgt := 42) F dX0_lowestAwake_18 (by decide) (fun c_2 => ?_) (fun c_2 => ?_)
      · skip
        refine en_iinc (lv' := [(2, .int (nI (i + 1))), (1, .int (ec_bI z)), (0, .ref h)]) F dX0_lowestAwake_42 hl (k := 1) rfl (by decide) rfl (fun ls hl => ?_)
        refine lv_goto (tgt := 4) F.1 F.2.1 dX0_lowestAwake_45 (by decide) ?_
        have ez : (ec_low (xlv σ) (xaw σ)) i z = z := by simp [ec_low, c_2]
        rw [ez] at kk_i
        exact kk_i _ _ Z ls (lv_sub hl [1, 0, 2] rfl)
      · skip
        cases z with
        | none =>
          refine lv_iload_n F.1 F.2.1 dX0_lowestAwake_21 rfl (lv_at hl 0 rfl) ?_
          refine lv_if_lt (tgt := 40) F.1 F.2.1 dX0_lowestAwake_22 (by decide) (fun c_3 => ?_) (fun c_3 => ?_)
          · skip
            refine lv_iload_n F.1 F.2.1 dX0_lowestAwake_40 rfl (lv_at hl 1 rfl) ?_
            refine lv_istore_n (lv' := [(1, .int (nI i)), (2, .int (nI i)), (0, .ref h)]) F.1 F.2.1 dX0_lowestAwake_41 rfl hl (by decide) rfl (fun ls hl => ?_)
            refine en_iinc (lv' := [(2, .int (nI (i + 1))), (1, .int (nI i)), (0, .ref h)]) F dX0_lowestAwake_42 hl (k := 1) rfl (by decide) rfl (fun ls hl => ?_)
            refine lv_goto (tgt := 4) F.1 F.2.1 dX0_lowestAwake_45 (by decide) ?_
            have ez : (ec_low (xlv σ) (xaw σ)) i none = (some i) := by simp [ec_low, c_2]
            rw [ez] at kk_i
            exact kk_i _ _ Z ls (lv_sub hl [1, 0, 2] rfl)
          · exact absurd (by decide) c_3
        | some j =>
          have hj : j < 12 := hz_i j rfl
          have hl : lv_has ls 3 [(1, .int (nI j)), (2, .int (nI i)), (0, .ref h)] := hl
          refine lv_iload_n F.1 F.2.1 dX0_lowestAwake_21 rfl (lv_at hl 0 rfl) ?_
          refine lv_if_lt (tgt := 40) F.1 F.2.1 dX0_lowestAwake_22 (by decide) (fun c_4 => ?_) (fun c_4 => ?_)
          · exact absurd c_4 (nI_pos (Nat.lt_of_lt_of_le hj (by decide)))
          · skip
            refine lv_aload_n F.1 F.2.1 dX0_lowestAwake_25 rfl (lv_at hl 2 rfl) ?_
            refine ex_get F Z 7 (by decide) rfl rfl q40 dX0_lowestAwake_26 ?_
            refine lv_iload_n F.1 F.2.1 dX0_lowestAwake_29 rfl (lv_at hl 1 rfl) ?_
            refine en_bald F Z 8 (xlv σ) rfl hi_i dX0_lowestAwake_30 ?_
            refine lv_aload_n F.1 F.2.1 dX0_lowestAwake_31 rfl (lv_at hl 2 rfl) ?_
            refine ex_get F Z 7 (by decide) rfl rfl q40 dX0_lowestAwake_32 ?_
            refine lv_iload_n F.1 F.2.1 dX0_lowestAwake_35 rfl (lv_at hl 0 rfl) ?_
            refine en_bald F Z 8 (xlv σ) rfl hj dX0_lowestAwake_36 ?_
            refine en_icmp_ge (tgt := 42) F (Nat.lt_of_lt_of_le (hW.2.2.2.2.2.2.2.1 _ hi_i) (by decide)) (Nat.lt_of_lt_of_le (hW.2.2.2.2.2.2.2.1 _ hj) (by decide)) dX0_lowestAwake_37 (by decide) (fun c_5 => ?_) (fun c_5 => ?_)
            · skip
              refine en_iinc (lv' := [(2, .int (nI (i + 1))), (1, .int (nI j)), (0, .ref h)]) F dX0_lowestAwake_42 hl (k := 1) rfl (by decide) rfl (fun ls hl => ?_)
              refine lv_goto (tgt := 4) F.1 F.2.1 dX0_lowestAwake_45 (by decide) ?_
              have ez : (ec_low (xlv σ) (xaw σ)) i (some j) = (some j) := by simp [ec_low, c_2, Nat.not_lt.mpr c_5]
              rw [ez] at kk_i
              exact kk_i _ _ Z ls (lv_sub hl [1, 0, 2] rfl)
            · skip
              refine lv_iload_n F.1 F.2.1 dX0_lowestAwake_40 rfl (lv_at hl 1 rfl) ?_
              refine lv_istore_n (lv' := [(1, .int (nI i)), (2, .int (nI i)), (0, .ref h)]) F.1 F.2.1 dX0_lowestAwake_41 rfl hl (by decide) rfl (fun ls hl => ?_)
              refine en_iinc (lv' := [(2, .int (nI (i + 1))), (1, .int (nI i)), (0, .ref h)]) F dX0_lowestAwake_42 hl (k := 1) rfl (by decide) rfl (fun ls hl => ?_)
              refine lv_goto (tgt := 4) F.1 F.2.1 dX0_lowestAwake_45 (by decide) ?_
              have ez : (ec_low (xlv σ) (xaw σ)) i (some j) = (some i) := by simp [ec_low, c_2, c_5]
              rw [ez] at kk_i
              exact kk_i _ _ Z ls (lv_sub hl [1, 0, 2] rfl)
  · intro H locs Z ls hl
    refine lv_iload_n F.1 F.2.1 dX0_lowestAwake_4 rfl (lv_at hl 1 rfl) ?_
    refine lv_bipush (v := (nI 12)) F.1 F.2.1 dX0_lowestAwake_5 (by decide) ?_
    refine en_icmp_ge (tgt := 48) F (by omega) (by omega) dX0_lowestAwake_7 (by decide) (fun c_6 => ?_) (fun c_6 => ?_)
    · skip
      refine lv_iload_n F.1 F.2.1 dX0_lowestAwake_48 rfl (lv_at hl 0 rfl) ?_
      refine ret _ _ _ _ _ _ rfl Z ?_ dX0_lowestAwake_49
      exact ⟨rfl, rfl⟩
    · exact absurd c_6 (by decide)
set_option maxHeartbeats 4000000 in
theorem x_hang_m (l : Launch) (D : va_G) (G : ec_G) (h : Nat) (ad : Nat → Nat) (sz : Nat) (σ : XS) (k : Nat) (hk : k < 12) (hW : XWF σ) : ec_Mi l yX0_hangingOn cX0_hangingOn 5 (some .int) 0 D G (XW G h ad) h [.int (nI k)] σ sz (fun r σ' => r = nI (x_hang (xli σ) k) ∧ σ' = σ) := by
  refine ec_walk_i RX0 (by decide) rfl (Nat.le_of_ble_eq_true rfl) ?_
  intro p e s m below meth c A args Q F hA ret Z ls hl
  have hl : lv_has ls 5 [(0, .ref h), (1, .int (nI k))] := hl
  refine lv_aload_n F.1 F.2.1 dX0_hangingOn_0 rfl (lv_at hl 0 rfl) ?_
  refine ex_get F Z 6 (by decide) rfl rfl q39 dX0_hangingOn_1 ?_
  refine lv_iload_n F.1 F.2.1 dX0_hangingOn_4 rfl (lv_at hl 1 rfl) ?_
  refine en_iald F Z 7 (xli σ) rfl hk dX0_hangingOn_5 ?_
  refine lv_istore_n (lv' := [(2, .int (nI (xli σ k))), (0, .ref h), (1, .int (nI k))]) F.1 F.2.1 dX0_hangingOn_6 rfl hl (by decide) rfl (fun ls hl => ?_)
  refine lv_iconst (v := (nI 0)) F.1 F.2.1 dX0_hangingOn_7 (by decide) ?_
  refine lv_istore_n (lv' := [(3, .int (nI 0)), (2, .int (nI (xli σ k))), (0, .ref h), (1, .int (nI k))]) F.1 F.2.1 dX0_hangingOn_8 rfl hl (by decide) rfl (fun ls hl => ?_)
  refine ec_lp_run (S := Nat) (fun _ z => ec_lp (ec_ha (xli σ)) 12 0 z) (fun i z => z < 4096) (fun i z => ∀ (H : Heap) (locs : List Loc), ec_Z D G A s (XW G h ad σ) H locs → ∀ ls : Array Slot, lv_has ls 5 [(3, .int (nI i)), (2, .int (nI z)), (0, .ref h), (1, .int (nI k))] → W p l e (ec_rm 0) s m args below meth c H locs 0 0 Q (F0 m 9 ls [])) 12 (fun _ _ _ h => ec_ha_lp hW.2.2.2.2.2.2.1 h) ?_ 12 0 (xli σ k) (Nat.zero_add _) (hW.2.2.2.2.2.2.1 k hk) ?_ _ _ Z ls (lv_sub hl [0, 1, 2, 3] rfl)
  · intro i z hi_i hz_i kk_i H locs Z ls hl
    refine lv_iload_n F.1 F.2.1 dX0_hangingOn_9 rfl (lv_at hl 0 rfl) ?_
    refine lv_bipush (v := (nI 12)) F.1 F.2.1 dX0_hangingOn_10 (by decide) ?_
    refine en_icmp_ge (tgt := 56) F (Nat.lt_of_lt_of_le hi_i (by decide)) (by omega) dX0_hangingOn_12 (by decide) (fun c_1 => ?_) (fun c_1 => ?_)
    · exact absurd hi_i (Nat.not_lt.mpr c_1)
    · skip
      refine lv_iconst (v := (nI 0)) F.1 F.2.1 dX0_hangingOn_15 (by decide) ?_
      refine lv_istore (lv' := [(4, .int (nI 0)), (3, .int (nI i)), (2, .int (nI z)), (0, .ref h), (1, .int (nI k))]) F.1 F.2.1 dX0_hangingOn_16 hl (by decide) rfl (fun ls hl => ?_)
      refine ec_lp_run (S := Nat) (ec_ha (xli σ)) (fun j y => y < 4096) (fun j y => ∀ (H : Heap) (locs : List Loc), ec_Z D G A s (XW G h ad σ) H locs → ∀ ls : Array Slot, lv_has ls 5 [(4, .int (nI j)), (2, .int (nI y)), (3, .int (nI i)), (0, .ref h), (1, .int (nI k))] → W p l e (ec_rm 0) s m args below meth c H locs 0 0 Q (F0 m 18 ls [])) 12 (fun _ _ hi h => ec_ha_lt hW.2.2.2.2.2.2.1 hi h) ?_ 12 0 z (Nat.zero_add _) hz_i ?_ _ _ Z ls (lv_sub hl [0, 2, 1, 3, 4] rfl)
      · intro j y hi_j hz_j kk_j H locs Z ls hl
        refine lv_iload F.1 F.2.1 dX0_hangingOn_18 (lv_at hl 0 rfl) ?_
        refine lv_bipush (v := (nI 12)) F.1 F.2.1 dX0_hangingOn_20 (by decide) ?_
        refine en_icmp_ge (tgt := 50) F (Nat.lt_of_lt_of_le hi_j (by decide)) (by omega) dX0_hangingOn_22 (by decide) (fun c_2 => ?_) (fun c_2 => ?_)
        · exact absurd hi_j (Nat.not_lt.mpr c_2)
        · skip
          refine lv_iload_n F.1 F.2.1 dX0_hangingOn_25 rfl (lv_at hl 1 rfl) ?_
          refine lv_iload F.1 F.2.1 dX0_hangingOn_26 (lv_at hl 0 rfl) ?_
          refine en_ishr F (Nat.lt_of_lt_of_le hz_j (by decide)) (Nat.lt_of_lt_of_le hi_j (by decide)) dX0_hangingOn_28 ?_
          refine lv_iconst (v := (nI 1)) F.1 F.2.1 dX0_hangingOn_29 (by decide) ?_
          refine en_iand1 F dX0_hangingOn_30 ?_
          refine en_ifb_eq (tgt := 44) F dX0_hangingOn_31 (by decide) (fun c_3 => ?_) (fun c_3 => ?_)
          · skip
            refine en_iinc (lv' := [(4, .int (nI (j + 1))), (2, .int (nI y)), (3, .int (nI i)), (0, .ref h), (1, .int (nI k))]) F dX0_hangingOn_44 hl (k := 0) rfl (by decide) rfl (fun ls hl => ?_)
            refine lv_goto (tgt := 18) F.1 F.2.1 dX0_hangingOn_47 (by decide) ?_
            have ez : (ec_ha (xli σ)) j y = y := by simp [ec_ha, c_3]
            rw [ez] at kk_j
            exact kk_j _ _ Z ls (lv_sub hl [0, 1, 2, 3, 4] rfl)
          · skip
            refine lv_iload_n F.1 F.2.1 dX0_hangingOn_34 rfl (lv_at hl 1 rfl) ?_
            refine lv_aload_n F.1 F.2.1 dX0_hangingOn_35 rfl (lv_at hl 3 rfl) ?_
            refine ex_get F Z 6 (by decide) rfl rfl q39 dX0_hangingOn_36 ?_
            refine lv_iload F.1 F.2.1 dX0_hangingOn_39 (lv_at hl 0 rfl) ?_
            refine en_iald F Z 7 (xli σ) rfl hi_j dX0_hangingOn_41 ?_
            refine en_ior F dX0_hangingOn_42 ?_
            refine lv_istore_n (lv' := [(2, .int (nI (y ||| (xli σ j)))), (4, .int (nI j)), (3, .int (nI i)), (0, .ref h), (1, .int (nI k))]) F.1 F.2.1 dX0_hangingOn_43 rfl hl (by decide) rfl (fun ls hl => ?_)
            refine en_iinc (lv' := [(4, .int (nI (j + 1))), (2, .int (nI (y ||| (xli σ j)))), (3, .int (nI i)), (0, .ref h), (1, .int (nI k))]) F dX0_hangingOn_44 hl (k := 1) rfl (by decide) rfl (fun ls hl => ?_)
            refine lv_goto (tgt := 18) F.1 F.2.1 dX0_hangingOn_47 (by decide) ?_
            have ez : (ec_ha (xli σ)) j y = (y ||| xli σ j) := by simp [ec_ha, c_3]
            rw [ez] at kk_j
            exact kk_j _ _ Z ls (lv_sub hl [0, 1, 2, 3, 4] rfl)
      · intro H locs Z ls hl
        refine lv_iload F.1 F.2.1 dX0_hangingOn_18 (lv_at hl 0 rfl) ?_
        refine lv_bipush (v := (nI 12)) F.1 F.2.1 dX0_hangingOn_20 (by decide) ?_
        refine en_icmp_ge (tgt := 50) F (by omega) (by omega) dX0_hangingOn_22 (by decide) (fun c_4 => ?_) (fun c_4 => ?_)
        · skip
          refine en_iinc (lv' := [(3, .int (nI (i + 1))), (4, .int (nI 12)), (2, .int (nI (ec_lp (ec_ha (xli σ)) 12 0 z))), (0, .ref h), (1, .int (nI k))]) F dX0_hangingOn_50 hl (k := 2) rfl (by decide) rfl (fun ls hl => ?_)
          refine lv_goto (tgt := 9) F.1 F.2.1 dX0_hangingOn_53 (by decide) ?_
          exact kk_i _ _ Z ls (lv_sub hl [0, 2, 3, 4] rfl)
        · exact absurd c_4 (by decide)
  · intro H locs Z ls hl
    refine lv_iload_n F.1 F.2.1 dX0_hangingOn_9 rfl (lv_at hl 0 rfl) ?_
    refine lv_bipush (v := (nI 12)) F.1 F.2.1 dX0_hangingOn_10 (by decide) ?_
    refine en_icmp_ge (tgt := 56) F (by omega) (by omega) dX0_hangingOn_12 (by decide) (fun c_5 => ?_) (fun c_5 => ?_)
    · skip
      refine lv_iload_n F.1 F.2.1 dX0_hangingOn_56 rfl (lv_at hl 1 rfl) ?_
      refine ret _ _ _ _ _ _ rfl Z ?_ dX0_hangingOn_57
      exact ⟨rfl, rfl⟩
    · exact absurd c_5 (by decide)
set_option maxHeartbeats 4000000 in
theorem x_regs_m (l : Launch) (D : va_G) (G : ec_G) (h : Nat) (ad : Nat → Nat) (sz : Nat) (σ : XS) (hW : XWF σ) : ec_Mi l yX0_registersChanged cX0_registersChanged 3 (some .int) 0 D G (XW G h ad) h [] σ sz (fun r σ' => r = nI (x_regs (xld σ)) ∧ σ' = σ) := by
  refine ec_walk_i RX0 (by decide) rfl (Nat.le_of_ble_eq_true rfl) ?_
  intro p e s m below meth c A args Q F hA ret Z ls hl
  have hl : lv_has ls 3 [(0, .ref h)] := hl
  refine lv_iconst (v := (nI 0)) F.1 F.2.1 dX0_registersChanged_0 (by decide) ?_
  refine lv_istore_n (lv' := [(1, .int (nI 0)), (0, .ref h)]) F.1 F.2.1 dX0_registersChanged_1 rfl hl (by decide) rfl (fun ls hl => ?_)
  refine lv_iconst (v := (nI 0)) F.1 F.2.1 dX0_registersChanged_2 (by decide) ?_
  refine lv_istore_n (lv' := [(2, .int (nI 0)), (1, .int (nI 0)), (0, .ref h)]) F.1 F.2.1 dX0_registersChanged_3 rfl hl (by decide) rfl (fun ls hl => ?_)
  refine ec_lp_run (S := Nat) (fun r c => c + ((xld σ).testBit r).toNat) (fun i z => True) (fun i z => ∀ (H : Heap) (locs : List Loc), ec_Z D G A s (XW G h ad σ) H locs → ∀ ls : Array Slot, lv_has ls 3 [(1, .int (nI z)), (2, .int (nI i)), (0, .ref h)] → W p l e (ec_rm 0) s m args below meth c H locs 0 0 Q (F0 m 4 ls [])) 12 (fun _ _ _ _ => trivial) ?_ 12 0 0 (Nat.zero_add _) trivial ?_ _ _ Z ls (lv_sub hl [1, 0, 2] rfl)
  · intro i z hi_i hz_i kk_i H locs Z ls hl
    refine lv_iload_n F.1 F.2.1 dX0_registersChanged_4 rfl (lv_at hl 1 rfl) ?_
    refine lv_bipush (v := (nI 12)) F.1 F.2.1 dX0_registersChanged_5 (by decide) ?_
    refine en_icmp_ge (tgt := 27) F (Nat.lt_of_lt_of_le hi_i (by decide)) (by omega) dX0_registersChanged_7 (by decide) (fun c_1 => ?_) (fun c_1 => ?_)
    · exact absurd hi_i (Nat.not_lt.mpr c_1)
    · skip
      refine lv_iload_n F.1 F.2.1 dX0_registersChanged_10 rfl (lv_at hl 0 rfl) ?_
      refine lv_aload_n F.1 F.2.1 dX0_registersChanged_11 rfl (lv_at hl 2 rfl) ?_
      refine ex_get F Z 9 (by decide) rfl rfl q42 dX0_registersChanged_12 ?_
      refine lv_iload_n F.1 F.2.1 dX0_registersChanged_15 rfl (lv_at hl 1 rfl) ?_
      refine en_ishr F (Nat.lt_of_lt_of_le hW.2.2.2.2.2.2.2.2.2.1 (by decide)) (Nat.lt_of_lt_of_le hi_i (by decide)) dX0_registersChanged_16 ?_
      refine lv_iconst (v := (nI 1)) F.1 F.2.1 dX0_registersChanged_17 (by decide) ?_
      refine en_iand1 F dX0_registersChanged_18 ?_
      refine en_iadd F dX0_registersChanged_19 ?_
      refine lv_istore_n (lv' := [(1, .int (nI (z + ((xld σ).testBit i).toNat))), (2, .int (nI i)), (0, .ref h)]) F.1 F.2.1 dX0_registersChanged_20 rfl hl (by decide) rfl (fun ls hl => ?_)
      refine en_iinc (lv' := [(2, .int (nI (i + 1))), (1, .int (nI (z + ((xld σ).testBit i).toNat))), (0, .ref h)]) F dX0_registersChanged_21 hl (k := 1) rfl (by decide) rfl (fun ls hl => ?_)
      refine lv_goto (tgt := 4) F.1 F.2.1 dX0_registersChanged_24 (by decide) ?_
      exact kk_i _ _ Z ls (lv_sub hl [1, 0, 2] rfl)
  · intro H locs Z ls hl
    refine lv_iload_n F.1 F.2.1 dX0_registersChanged_4 rfl (lv_at hl 1 rfl) ?_
    refine lv_bipush (v := (nI 12)) F.1 F.2.1 dX0_registersChanged_5 (by decide) ?_
    refine en_icmp_ge (tgt := 27) F (by omega) (by omega) dX0_registersChanged_7 (by decide) (fun c_2 => ?_) (fun c_2 => ?_)
    · skip
      refine lv_iload_n F.1 F.2.1 dX0_registersChanged_27 rfl (lv_at hl 0 rfl) ?_
      refine ret _ _ _ _ _ _ rfl Z ?_ dX0_registersChanged_28
      exact ⟨rfl, rfl⟩
    · exact absurd c_2 (by decide)
set_option maxHeartbeats 4000000 in
theorem x_depth_m (l : Launch) (D : va_G) (G : ec_G) (h : Nat) (ad : Nat → Nat) (sz : Nat) (σ : XS) (hW : XWF σ) : ec_Mi l yX0_depth cX0_depth 3 (some .int) 0 D G (XW G h ad) h [] σ sz (fun r σ' => r = nI (x_depth σ) ∧ σ' = σ) := by
  refine ec_walk_i RX0 (by decide) rfl (Nat.le_of_ble_eq_true rfl) ?_
  intro p e s m below meth c A args Q F hA ret Z ls hl
  have hl : lv_has ls 3 [(0, .ref h)] := hl
  refine lv_iconst (v := (nI 0)) F.1 F.2.1 dX0_depth_0 (by decide) ?_
  refine lv_istore_n (lv' := [(1, .int (nI 0)), (0, .ref h)]) F.1 F.2.1 dX0_depth_1 rfl hl (by decide) rfl (fun ls hl => ?_)
  refine lv_iconst (v := (nI 0)) F.1 F.2.1 dX0_depth_2 (by decide) ?_
  refine lv_istore_n (lv' := [(2, .int (nI 0)), (1, .int (nI 0)), (0, .ref h)]) F.1 F.2.1 dX0_depth_3 rfl hl (by decide) rfl (fun ls hl => ?_)
  refine ec_lp_run (S := Nat) (ec_dp (xso σ) (xlv σ)) (fun i z => z < 13) (fun i z => ∀ (H : Heap) (locs : List Loc), ec_Z D G A s (XW G h ad σ) H locs → ∀ ls : Array Slot, lv_has ls 3 [(1, .int (nI z)), (2, .int (nI i)), (0, .ref h)] → W p l e (ec_rm 0) s m args below meth c H locs 0 0 Q (F0 m 4 ls [])) 12 (fun _ _ hi h => ec_dp_lt hW.2.2.2.2.2.2.2.1 hi h) ?_ 12 0 0 (Nat.zero_add _) (by decide) ?_ _ _ Z ls (lv_sub hl [1, 0, 2] rfl)
  · intro i z hi_i hz_i kk_i H locs Z ls hl
    refine lv_iload_n F.1 F.2.1 dX0_depth_4 rfl (lv_at hl 1 rfl) ?_
    refine lv_bipush (v := (nI 12)) F.1 F.2.1 dX0_depth_5 (by decide) ?_
    refine en_icmp_ge (tgt := 43) F (Nat.lt_of_lt_of_le hi_i (by decide)) (by omega) dX0_depth_7 (by decide) (fun c_1 => ?_) (fun c_1 => ?_)
    · exact absurd hi_i (Nat.not_lt.mpr c_1)
    · skip
      refine lv_aload_n F.1 F.2.1 dX0_depth_10 rfl (lv_at hl 2 rfl) ?_
      refine ex_get F Z 0 (by decide) rfl rfl q33 dX0_depth_11 ?_
      refine lv_iload_n F.1 F.2.1 dX0_depth_14 rfl (lv_at hl 1 rfl) ?_
      refine en_bald F Z 1 (xso σ) rfl hi_i dX0_depth_15 ?_
      refine lv_iconst (v := (nI 1)) F.1 F.2.1 dX0_depth_16 (by decide) ?_
      refine en_icmp_ne (tgt := 37) F (Nat.lt_of_lt_of_le (hW.1 _ hi_i) (by decide)) (by omega) dX0_depth_17 (by decide) (fun c_2 => ?_) (fun c_2 => ?_)
      · skip
        refine en_iinc (lv' := [(2, .int (nI (i + 1))), (1, .int (nI z)), (0, .ref h)]) F dX0_depth_37 hl (k := 1) rfl (by decide) rfl (fun ls hl => ?_)
        refine lv_goto (tgt := 4) F.1 F.2.1 dX0_depth_40 (by decide) ?_
        have ez : (ec_dp (xso σ) (xlv σ)) i z = z := by exact ec_dp_1 c_2
        rw [ez] at kk_i
        exact kk_i _ _ Z ls (lv_sub hl [1, 0, 2] rfl)
      · skip
        refine lv_aload_n F.1 F.2.1 dX0_depth_20 rfl (lv_at hl 2 rfl) ?_
        refine ex_get F Z 7 (by decide) rfl rfl q40 dX0_depth_21 ?_
        refine lv_iload_n F.1 F.2.1 dX0_depth_24 rfl (lv_at hl 1 rfl) ?_
        refine en_bald F Z 8 (xlv σ) rfl hi_i dX0_depth_25 ?_
        refine lv_iload_n F.1 F.2.1 dX0_depth_26 rfl (lv_at hl 0 rfl) ?_
        refine en_icmp_le (tgt := 37) F (Nat.lt_of_lt_of_le (hW.2.2.2.2.2.2.2.1 _ hi_i) (by decide)) (Nat.lt_of_lt_of_le hz_i (by decide)) dX0_depth_27 (by decide) (fun c_3 => ?_) (fun c_3 => ?_)
        · skip
          refine en_iinc (lv' := [(2, .int (nI (i + 1))), (1, .int (nI z)), (0, .ref h)]) F dX0_depth_37 hl (k := 1) rfl (by decide) rfl (fun ls hl => ?_)
          refine lv_goto (tgt := 4) F.1 F.2.1 dX0_depth_40 (by decide) ?_
          have ez : (ec_dp (xso σ) (xlv σ)) i z = z := by exact ec_dp_2 c_3
          rw [ez] at kk_i
          exact kk_i _ _ Z ls (lv_sub hl [1, 0, 2] rfl)
        · skip
          refine lv_aload_n F.1 F.2.1 dX0_depth_30 rfl (lv_at hl 2 rfl) ?_
          refine ex_get F Z 7 (by decide) rfl rfl q40 dX0_depth_31 ?_
          refine lv_iload_n F.1 F.2.1 dX0_depth_34 rfl (lv_at hl 1 rfl) ?_
          refine en_bald F Z 8 (xlv σ) rfl hi_i dX0_depth_35 ?_
          refine lv_istore_n (lv' := [(1, .int (nI (xlv σ i))), (2, .int (nI i)), (0, .ref h)]) F.1 F.2.1 dX0_depth_36 rfl hl (by decide) rfl (fun ls hl => ?_)
          refine en_iinc (lv' := [(2, .int (nI (i + 1))), (1, .int (nI (xlv σ i))), (0, .ref h)]) F dX0_depth_37 hl (k := 1) rfl (by decide) rfl (fun ls hl => ?_)
          refine lv_goto (tgt := 4) F.1 F.2.1 dX0_depth_40 (by decide) ?_
          have ez : (ec_dp (xso σ) (xlv σ)) i z = (xlv σ i) := by exact ec_dp_3 c_2 c_3
          rw [ez] at kk_i
          exact kk_i _ _ Z ls (lv_sub hl [1, 0, 2] rfl)
  · intro H locs Z ls hl
    refine lv_iload_n F.1 F.2.1 dX0_depth_4 rfl (lv_at hl 1 rfl) ?_
    refine lv_bipush (v := (nI 12)) F.1 F.2.1 dX0_depth_5 (by decide) ?_
    refine en_icmp_ge (tgt := 43) F (by omega) (by omega) dX0_depth_7 (by decide) (fun c_4 => ?_) (fun c_4 => ?_)
    · skip
      refine lv_iload_n F.1 F.2.1 dX0_depth_43 rfl (lv_at hl 0 rfl) ?_
      refine ret _ _ _ _ _ _ rfl Z ?_ dX0_depth_44
      exact ⟨rfl, rfl⟩
    · exact absurd c_4 (by decide)
end
section
/-! EventCircuit: settle, connect, sample, define, change -/
set_option maxRecDepth 100000
set_option maxHeartbeats 4000000 in
theorem x_settle_m (l : Launch) (D : va_G) (G : ec_G) (h : Nat) (ad : Nat → Nat) (sz : Nat) (σ : XS) (hW : XWF σ) : ec_Mi l yX0_settle cX0_settle 6 (some .int) 1 D G (XW G h ad) h [] σ sz (fun r σ' => r = nI (x_se σ).1 ∧ σ' = x_settle σ) := by
  refine ec_walk_i RX0 (by decide) rfl (Nat.le_of_ble_eq_true rfl) ?_
  intro p e s m below meth c A args Q F hA ret Z ls hl
  have hl : lv_has ls 6 [(0, .ref h)] := hl
  refine lv_iconst (v := (nI 0)) F.1 F.2.1 dX0_settle_0 (by decide) ?_
  refine lv_istore_n (lv' := [(1, .int (nI 0)), (0, .ref h)]) F.1 F.2.1 dX0_settle_1 rfl hl (by decide) rfl (fun ls hl => ?_)
  refine lv_iconst (v := (nI 0)) F.1 F.2.1 dX0_settle_2 (by decide) ?_
  refine lv_istore_n (lv' := [(2, .int (nI 0)), (1, .int (nI 0)), (0, .ref h)]) F.1 F.2.1 dX0_settle_3 rfl hl (by decide) rfl (fun ls hl => ?_)
  refine ec_down 12 (fun n i => ∀ (ch : Nat) (vl : ec_A) (aw : Nat), (∀ j, j < 12 → vl j < 16) → aw < 4096 → ec_se (xop σ) (xsa σ) (xsb σ) (xli σ) (xlv σ) n ch vl aw = x_se σ → ∀ (H : Heap) (locs : List Loc), ec_Z D G A s (XW G h ad (xsVA σ vl aw)) H locs → ∀ ls : Array Slot, lv_has ls 6 [(1, .int (nI ch)), (2, .int (nI i)), (0, .ref h)] → W p l e (ec_rm 1) s m args below meth c H locs 0 0 Q (F0 m 4 ls [])) ?_ ?_ 12 0 (by decide) 0 (xvl σ) (xaw σ) hW.2.1 hW.2.2.2.2.2.2.2.2.1 rfl _ _ Z ls (lv_sub hl [1, 0, 2] rfl)
  · intro ch vl aw hvl haw he H locs Z ls hl
    have he : (ch, vl, aw) = x_se σ := he
    refine lv_iload_n F.1 F.2.1 dX0_settle_4 rfl (lv_at hl 1 rfl) ?_
    refine lv_bipush (v := (nI 12)) F.1 F.2.1 dX0_settle_5 (by decide) ?_
    refine en_icmp_ge (tgt := 74) F (by omega) (by omega) dX0_settle_7 (by decide) (fun c_1 => ?_) (fun c_1 => ?_)
    · skip
      refine lv_iload_n F.1 F.2.1 dX0_settle_74 rfl (lv_at hl 0 rfl) ?_
      refine ret _ _ _ _ _ _ rfl Z ?_ dX0_settle_75
      exact ⟨by rw [← he], by unfold x_settle; rw [← he]⟩
    · exact absurd c_1 (by decide)
  · intro n i hin kk ch vl aw hvl haw he H locs Z ls hl
    have hi : i < 12 := by omega
    refine lv_iload_n F.1 F.2.1 dX0_settle_4 rfl (lv_at hl 1 rfl) ?_
    refine lv_bipush (v := (nI 12)) F.1 F.2.1 dX0_settle_5 (by decide) ?_
    refine en_icmp_ge (tgt := 74) F (Nat.lt_of_lt_of_le hi (by decide)) (by omega) dX0_settle_7 (by decide) (fun c_2 => ?_) (fun c_2 => ?_)
    · exact absurd hi (Nat.not_lt.mpr c_2)
    · skip
      refine lv_aload_n F.1 F.2.1 dX0_settle_10 rfl (lv_at hl 2 rfl) ?_
      refine ex_get (v := .int (nI aw)) F Z 8 (by decide) rfl rfl q41 dX0_settle_11 ?_
      refine en_if_eq (tgt := 74) F (Nat.lt_of_lt_of_le haw (by decide)) dX0_settle_14 (by decide) (fun c_3 => ?_) (fun c_3 => ?_)
      · skip
        refine lv_iload_n F.1 F.2.1 dX0_settle_74 rfl (lv_at hl 0 rfl) ?_
        refine ret _ _ _ _ _ _ rfl Z ?_ dX0_settle_75
        have he : (ch, vl, aw) = x_se σ := by rw [← he]; simp [ec_se, c_3]
        exact ⟨by rw [← he], by unfold x_settle; rw [← he]⟩
      · skip
        refine lv_aload_n F.1 F.2.1 dX0_settle_17 rfl (lv_at hl 2 rfl) ?_
        refine ec_calli (Wf := XW G h ad) (σ := xsVA σ vl aw) (rest := []) F Z hA (x_low_m l D G h ad _ (xsVA σ vl aw) (xwf_VA hW hvl haw)) (cwV 0 F.2.2.2.2 (lw_V q101 q103 qs7 q23 q104) rfl rfl rfl (by decide +kernel) ⟨Nat.le_of_ble_eq_true rfl, Nat.le_of_ble_eq_true rfl⟩) (ex_recv Z) rfl hl.1 rfl (Nat.le_of_ble_eq_true rfl) dX0_settle_18 ⟨Nat.le_of_ble_eq_true rfl, Nat.le_of_ble_eq_true rfl⟩ (fun r σ1 H locs hp Z => ?_)
        obtain ⟨w, hlow, hw, -, -⟩ := ec_low_spec (lv := xlv σ) haw c_3
        have hp1 : r = nI w := by
          have h9 : r = ec_bI (x_low (xlv σ) aw) := hp.1
          rw [h9, hlow]; rfl
        rw [hp1]
        have hp2 : σ1 = xsVA σ vl aw := hp.2
        rw [hp2] at Z
        refine lv_istore_n (lv' := [(3, .int (nI w)), (1, .int (nI ch)), (2, .int (nI i)), (0, .ref h)]) F.1 F.2.1 dX0_settle_21 rfl hl (by decide) rfl (fun ls hl => ?_)
        refine lv_aload_n F.1 F.2.1 dX0_settle_22 rfl (lv_at hl 3 rfl) ?_
        refine lv_dup F.1 F.2.1 dX0_settle_23 rfl ?_
        refine ex_get (v := .int (nI aw)) F Z 8 (by decide) rfl rfl q41 dX0_settle_24 ?_
        refine lv_iconst (v := (nI 1)) F.1 F.2.1 dX0_settle_27 (by decide) ?_
        refine lv_iload_n F.1 F.2.1 dX0_settle_28 rfl (lv_at hl 0 rfl) ?_
        refine en_ishl F (Nat.lt_of_lt_of_le hw (by decide)) dX0_settle_29 ?_
        refine lv_iconst (v := (nI 4294967295)) F.1 F.2.1 dX0_settle_30 (by decide) ?_
        refine en_ixor F dX0_settle_31 ?_
        refine en_iand F dX0_settle_32 ?_
        refine ex_putA (a := aw &&& ((2 ^ w) ^^^ 4294967295)) F Z dX0_settle_33 (fun H locs Z => ?_)
        have Z : ec_Z D G A s (XW G h ad (xsVA σ vl (aw &&& ((2 ^ w) ^^^ 4294967295)))) H locs := Z
        have Z : ec_Z D G A s (XW G h ad (xsVA σ vl (ec_clr aw w))) H locs := Z
        refine lv_aload_n F.1 F.2.1 dX0_settle_36 rfl (lv_at hl 3 rfl) ?_
        refine ex_get F Z 1 (by decide) rfl rfl q34 dX0_settle_37 ?_
        refine lv_iload_n F.1 F.2.1 dX0_settle_40 rfl (lv_at hl 0 rfl) ?_
        refine en_bald F Z 2 vl rfl hw dX0_settle_41 ?_
        refine lv_istore (lv' := [(4, .int (nI (vl w))), (3, .int (nI w)), (1, .int (nI ch)), (2, .int (nI i)), (0, .ref h)]) F.1 F.2.1 dX0_settle_42 hl (by decide) rfl (fun ls hl => ?_)
        refine lv_aload_n F.1 F.2.1 dX0_settle_44 rfl (lv_at hl 4 rfl) ?_
        refine lv_iload_n F.1 F.2.1 dX0_settle_45 rfl (lv_at hl 1 rfl) ?_
        refine ec_calli (Wf := XW G h ad) (σ := xsVA σ vl (ec_clr aw w)) (rest := []) F Z hA (x_formula_m l D G h ad _ (xsVA σ vl (ec_clr aw w)) w hw (xwf_VA hW hvl (ec_clr_lt haw))) (cwV 1 F.2.2.2.2 (lw_V q105 q107 qs8 q23 q108) rfl rfl rfl (by decide +kernel) ⟨Nat.le_of_ble_eq_true rfl, Nat.le_of_ble_eq_true rfl⟩) (ex_recv Z) rfl hl.1 rfl (Nat.le_of_ble_eq_true rfl) dX0_settle_46 ⟨Nat.le_of_ble_eq_true rfl, Nat.le_of_ble_eq_true rfl⟩ (fun r σ1 H locs hp Z => ?_)
        have hp1 : r = nI (ec_fm (xop σ w) (vl (xsa σ w)) (vl (xsb σ w))) := hp.1
        have hp2 : σ1 = xsVA σ vl (ec_clr aw w) := hp.2
        rw [hp1]
        rw [hp2] at Z
        refine lv_istore (lv' := [(5, .int (nI (ec_fm (xop σ w) (vl (xsa σ w)) (vl (xsb σ w))))), (4, .int (nI (vl w))), (3, .int (nI w)), (1, .int (nI ch)), (2, .int (nI i)), (0, .ref h)]) F.1 F.2.1 dX0_settle_49 hl (by decide) rfl (fun ls hl => ?_)
        refine lv_aload_n F.1 F.2.1 dX0_settle_51 rfl (lv_at hl 5 rfl) ?_
        refine lv_iload_n F.1 F.2.1 dX0_settle_52 rfl (lv_at hl 2 rfl) ?_
        refine lv_iload F.1 F.2.1 dX0_settle_53 (lv_at hl 0 rfl) ?_
        refine ec_callv (Wf := XW G h ad) (σ := xsVA σ vl (ec_clr aw w)) (rest := []) F Z hA (x_put_m l D G h ad _ (xsVA σ vl (ec_clr aw w)) w (ec_fm (xop σ w) (vl (xsa σ w)) (vl (xsb σ w))) hw (ec_fm_lt (hvl _ (hW.2.2.2.1 _ hw)) (hvl _ (hW.2.2.2.2.1 _ hw))) (xwf_VA hW hvl (ec_clr_lt haw))) (cwV 2 F.2.2.2.2 (lw_V q109 q111 qs9 q23 q112) rfl rfl rfl (by decide +kernel) ⟨Nat.le_of_ble_eq_true rfl, Nat.le_of_ble_eq_true rfl⟩) (ex_recv Z) rfl hl.1 rfl (Nat.le_of_ble_eq_true rfl) dX0_settle_55 ⟨Nat.le_of_ble_eq_true rfl, Nat.le_of_ble_eq_true rfl⟩ (fun σ1 H locs hp Z => ?_)
        have hp : σ1 = x_put (xsVA σ vl (ec_clr aw w)) w (ec_fm (xop σ w) (vl (xsa σ w)) (vl (xsb σ w))) := hp
        refine lv_iload F.1 F.2.1 dX0_settle_58 (lv_at hl 1 rfl) ?_
        refine lv_iload F.1 F.2.1 dX0_settle_60 (lv_at hl 0 rfl) ?_
        refine en_icmp_eq (tgt := 68) F (Nat.lt_of_lt_of_le (hvl _ hw) (by decide)) (Nat.lt_of_lt_of_le (ec_fm_lt (hvl _ (hW.2.2.2.1 _ hw)) (hvl _ (hW.2.2.2.2.1 _ hw))) (by decide)) dX0_settle_62 (by decide) (fun c_4 => ?_) (fun c_4 => ?_)
        · skip
          refine en_iinc (lv' := [(2, .int (nI (i + 1))), (5, .int (nI (ec_fm (xop σ w) (vl (xsa σ w)) (vl (xsb σ w))))), (4, .int (nI (vl w))), (3, .int (nI w)), (1, .int (nI ch)), (0, .ref h)]) F dX0_settle_68 hl (k := 4) rfl (by decide) rfl (fun ls hl => ?_)
          refine lv_goto (tgt := 4) F.1 F.2.1 dX0_settle_71 (by decide) ?_
          have e9 : x_put (xsVA σ vl (ec_clr aw w)) w (ec_fm (xop σ w) (vl (xsa σ w)) (vl (xsb σ w))) = xsVA σ vl (ec_clr aw w) := if_pos c_4
          rw [hp, e9] at Z
          exact kk ch vl (ec_clr aw w) hvl (ec_clr_lt haw) (by rw [← he]; simp only [ec_se, if_neg c_3, hlow, Option.getD_some, if_pos c_4]) _ _ Z ls (lv_sub hl [4, 0, 5] rfl)
        · skip
          refine en_iinc (lv' := [(1, .int (nI (ch + 1))), (5, .int (nI (ec_fm (xop σ w) (vl (xsa σ w)) (vl (xsb σ w))))), (4, .int (nI (vl w))), (3, .int (nI w)), (2, .int (nI i)), (0, .ref h)]) F dX0_settle_65 hl (k := 3) rfl (by decide) rfl (fun ls hl => ?_)
          refine en_iinc (lv' := [(2, .int (nI (i + 1))), (1, .int (nI (ch + 1))), (5, .int (nI (ec_fm (xop σ w) (vl (xsa σ w)) (vl (xsb σ w))))), (4, .int (nI (vl w))), (3, .int (nI w)), (0, .ref h)]) F dX0_settle_68 hl (k := 4) rfl (by decide) rfl (fun ls hl => ?_)
          refine lv_goto (tgt := 4) F.1 F.2.1 dX0_settle_71 (by decide) ?_
          have e9 : x_put (xsVA σ vl (ec_clr aw w)) w (ec_fm (xop σ w) (vl (xsa σ w)) (vl (xsb σ w))) = xsVA σ (ec_up vl w (ec_fm (xop σ w) (vl (xsa σ w)) (vl (xsb σ w)))) (ec_clr aw w ||| xli σ w) := if_neg c_4
          rw [hp, e9] at Z
          exact kk (ch + 1) (ec_up vl w (ec_fm (xop σ w) (vl (xsa σ w)) (vl (xsb σ w)))) (ec_clr aw w ||| xli σ w) (ec_up_lt hvl (ec_fm_lt (hvl _ (hW.2.2.2.1 _ hw)) (hvl _ (hW.2.2.2.2.1 _ hw)))) (ec_or_lt (ec_clr_lt haw) (hW.2.2.2.2.2.2.1 _ hw)) (by rw [← he]; simp only [ec_se, if_neg c_3, hlow, Option.getD_some, if_neg c_4]) _ _ Z ls (lv_sub hl [1, 0, 5] rfl)
set_option maxHeartbeats 4000000 in
theorem x_connect_m (l : Launch) (D : va_G) (G : ec_G) (h : Nat) (ad : Nat → Nat) (sz : Nat) (σ : XS) (hW : XWF σ) (rk : ec_A) (hac : ec_Ac (xso σ) (xsa σ) (xsb σ) rk) : ec_Mv l yX0_connect cX0_connect 4 0 D G (XW G h ad) h [] σ sz (fun σ' => σ' = x_connect σ) := by
  refine ec_walk_v RX0 (by decide) rfl (Nat.le_of_ble_eq_true rfl) ?_
  intro p e s m below meth c A args Q F hA ret Z ls hl
  have hl : lv_has ls 4 [(0, .ref h)] := hl
  refine lv_iconst (v := (nI 0)) F.1 F.2.1 dX0_connect_0 (by decide) ?_
  refine lv_istore_n (lv' := [(1, .int (nI 0)), (0, .ref h)]) F.1 F.2.1 dX0_connect_1 rfl hl (by decide) rfl (fun ls hl => ?_)
  refine ec_lp_run (S := ec_A × ec_A) (ec_cl) (fun i z => True) (fun i z => ∀ (H : Heap) (locs : List Loc), ec_Z D G A s (XW G h ad (xsLL σ z.1 z.2)) H locs → ∀ ls : Array Slot, lv_has ls 4 [(1, .int (nI i)), (0, .ref h)] → W p l e (ec_rm 0) s m args below meth c H locs 0 0 Q (F0 m 2 ls [])) 12 (fun _ _ _ _ => trivial) ?_ 12 0 (xli σ, xlv σ) (Nat.zero_add _) trivial ?_ _ _ Z ls (lv_sub hl [0, 1] rfl)
  · intro i z hi_i hz_i kk_i H locs Z ls hl
    refine lv_iload_n F.1 F.2.1 dX0_connect_2 rfl (lv_at hl 0 rfl) ?_
    refine lv_bipush (v := (nI 12)) F.1 F.2.1 dX0_connect_3 (by decide) ?_
    refine en_icmp_ge (tgt := 28) F (Nat.lt_of_lt_of_le hi_i (by decide)) (by omega) dX0_connect_5 (by decide) (fun c_1 => ?_) (fun c_1 => ?_)
    · exact absurd hi_i (Nat.not_lt.mpr c_1)
    · skip
      refine lv_aload_n F.1 F.2.1 dX0_connect_8 rfl (lv_at hl 1 rfl) ?_
      refine ex_get F Z 6 (by decide) rfl rfl q39 dX0_connect_9 ?_
      refine lv_iload_n F.1 F.2.1 dX0_connect_12 rfl (lv_at hl 0 rfl) ?_
      refine lv_iconst (v := (nI 0)) F.1 F.2.1 dX0_connect_13 (by decide) ?_
      refine en_iast (ws' := XW G h ad (xsLL σ (ec_up z.1 i 0) z.2)) F Z 7 z.1 rfl hi_i rfl dX0_connect_14 (fun H locs Z => ?_)
      refine lv_aload_n F.1 F.2.1 dX0_connect_15 rfl (lv_at hl 1 rfl) ?_
      refine ex_get F Z 7 (by decide) rfl rfl q40 dX0_connect_16 ?_
      refine lv_iload_n F.1 F.2.1 dX0_connect_19 rfl (lv_at hl 0 rfl) ?_
      refine lv_iconst (v := (nI 0)) F.1 F.2.1 dX0_connect_20 (by decide) ?_
      refine en_bast (ws' := XW G h ad (xsLL σ (ec_up z.1 i 0) (ec_up z.2 i 0))) F Z 8 z.2 rfl hi_i (by omega) rfl dX0_connect_21 (fun H locs Z => ?_)
      refine en_iinc (lv' := [(1, .int (nI (i + 1))), (0, .ref h)]) F dX0_connect_22 hl (k := 0) rfl (by decide) rfl (fun ls hl => ?_)
      refine lv_goto (tgt := 2) F.1 F.2.1 dX0_connect_25 (by decide) ?_
      exact kk_i _ _ Z ls (lv_sub hl [0, 1] rfl)
  · intro H locs Z ls hl
    have Z : ec_Z D G A s (XW G h ad (xsLL σ (x_cl σ).1 (x_cl σ).2)) H locs := Z
    refine lv_iload_n F.1 F.2.1 dX0_connect_2 rfl (lv_at hl 0 rfl) ?_
    refine lv_bipush (v := (nI 12)) F.1 F.2.1 dX0_connect_3 (by decide) ?_
    refine en_icmp_ge (tgt := 28) F (by omega) (by omega) dX0_connect_5 (by decide) (fun c_2 => ?_) (fun c_2 => ?_)
    · skip
      refine lv_iconst (v := (nI 0)) F.1 F.2.1 dX0_connect_28 (by decide) ?_
      refine lv_istore_n (lv' := [(1, .int (nI 0)), (0, .ref h)]) F.1 F.2.1 dX0_connect_29 rfl hl (by decide) rfl (fun ls hl => ?_)
      refine ec_lp_run (S := ec_A) (ec_ls (xso σ) (xsa σ) (xsb σ)) (fun i z => ∀ q, q < 12 → z q < 4096) (fun i z => ∀ (H : Heap) (locs : List Loc), ec_Z D G A s (XW G h ad (xsLL σ z (x_cl σ).2)) H locs → ∀ ls : Array Slot, lv_has ls 4 [(1, .int (nI i)), (0, .ref h)] → W p l e (ec_rm 0) s m args below meth c H locs 0 0 Q (F0 m 30 ls [])) 12 (fun _ _ hi h => ec_ls_lt hW.2.2.2.1 hW.2.2.2.2.1 h hi) ?_ 12 0 ((x_cl σ).1) (Nat.zero_add _) (x_cl_li σ) ?_ _ _ Z ls (lv_sub hl [0, 1] rfl)
      · intro i z hi_i hz_i kk_i H locs Z ls hl
        refine lv_iload_n F.1 F.2.1 dX0_connect_30 rfl (lv_at hl 0 rfl) ?_
        refine lv_bipush (v := (nI 12)) F.1 F.2.1 dX0_connect_31 (by decide) ?_
        refine en_icmp_ge (tgt := 89) F (Nat.lt_of_lt_of_le hi_i (by decide)) (by omega) dX0_connect_33 (by decide) (fun c_3 => ?_) (fun c_3 => ?_)
        · exact absurd hi_i (Nat.not_lt.mpr c_3)
        · skip
          refine lv_aload_n F.1 F.2.1 dX0_connect_36 rfl (lv_at hl 1 rfl) ?_
          refine ex_get F Z 0 (by decide) rfl rfl q33 dX0_connect_37 ?_
          refine lv_iload_n F.1 F.2.1 dX0_connect_40 rfl (lv_at hl 0 rfl) ?_
          refine en_bald F Z 1 (xso σ) rfl hi_i dX0_connect_41 ?_
          refine lv_iconst (v := (nI 1)) F.1 F.2.1 dX0_connect_42 (by decide) ?_
          refine en_icmp_eq (tgt := 49) F (Nat.lt_of_lt_of_le (hW.1 _ hi_i) (by decide)) (by omega) dX0_connect_43 (by decide) (fun c_4 => ?_) (fun c_4 => ?_)
          · skip
            refine lv_aload_n F.1 F.2.1 dX0_connect_49 rfl (lv_at hl 1 rfl) ?_
            refine ex_get F Z 6 (by decide) rfl rfl q39 dX0_connect_50 ?_
            refine lv_aload_n F.1 F.2.1 dX0_connect_53 rfl (lv_at hl 1 rfl) ?_
            refine ex_get F Z 3 (by decide) rfl rfl q36 dX0_connect_54 ?_
            refine lv_iload_n F.1 F.2.1 dX0_connect_57 rfl (lv_at hl 0 rfl) ?_
            refine en_bald F Z 4 (xsa σ) rfl hi_i dX0_connect_58 ?_
            refine lv_dup2_11 F.1 F.2.1 dX0_connect_59 rfl rfl ?_
            refine en_iald F Z 7 z rfl (hW.2.2.2.1 _ hi_i) dX0_connect_60 ?_
            refine lv_iconst (v := (nI 1)) F.1 F.2.1 dX0_connect_61 (by decide) ?_
            refine lv_iload_n F.1 F.2.1 dX0_connect_62 rfl (lv_at hl 0 rfl) ?_
            refine en_ishl F (Nat.lt_of_lt_of_le hi_i (by decide)) dX0_connect_63 ?_
            refine en_ior F dX0_connect_64 ?_
            refine en_iast (ws' := XW G h ad (xsLL σ (ec_up z (xsa σ i) ((z (xsa σ i)) ||| (2 ^ i))) ((x_cl σ).2))) F Z 7 z rfl (hW.2.2.2.1 _ hi_i) rfl dX0_connect_65 (fun H locs Z => ?_)
            refine lv_aload_n F.1 F.2.1 dX0_connect_66 rfl (lv_at hl 1 rfl) ?_
            refine ex_get F Z 6 (by decide) rfl rfl q39 dX0_connect_67 ?_
            refine lv_aload_n F.1 F.2.1 dX0_connect_70 rfl (lv_at hl 1 rfl) ?_
            refine ex_get F Z 4 (by decide) rfl rfl q37 dX0_connect_71 ?_
            refine lv_iload_n F.1 F.2.1 dX0_connect_74 rfl (lv_at hl 0 rfl) ?_
            refine en_bald F Z 5 (xsb σ) rfl hi_i dX0_connect_75 ?_
            refine lv_dup2_11 F.1 F.2.1 dX0_connect_76 rfl rfl ?_
            refine en_iald F Z 7 (ec_up z (xsa σ i) ((z (xsa σ i)) ||| (2 ^ i))) rfl (hW.2.2.2.2.1 _ hi_i) dX0_connect_77 ?_
            refine lv_iconst (v := (nI 1)) F.1 F.2.1 dX0_connect_78 (by decide) ?_
            refine lv_iload_n F.1 F.2.1 dX0_connect_79 rfl (lv_at hl 0 rfl) ?_
            refine en_ishl F (Nat.lt_of_lt_of_le hi_i (by decide)) dX0_connect_80 ?_
            refine en_ior F dX0_connect_81 ?_
            refine en_iast (ws' := XW G h ad (xsLL σ (ec_up (ec_up z (xsa σ i) ((z (xsa σ i)) ||| (2 ^ i))) (xsb σ i) ((ec_up z (xsa σ i) ((z (xsa σ i)) ||| (2 ^ i)) (xsb σ i)) ||| (2 ^ i))) ((x_cl σ).2))) F Z 7 (ec_up z (xsa σ i) ((z (xsa σ i)) ||| (2 ^ i))) rfl (hW.2.2.2.2.1 _ hi_i) rfl dX0_connect_82 (fun H locs Z => ?_)
            refine en_iinc (lv' := [(1, .int (nI (i + 1))), (0, .ref h)]) F dX0_connect_83 hl (k := 0) rfl (by decide) rfl (fun ls hl => ?_)
            refine lv_goto (tgt := 30) F.1 F.2.1 dX0_connect_86 (by decide) ?_
            have ez : (ec_ls (xso σ) (xsa σ) (xsb σ)) i z = ec_up (ec_up z (xsa σ i) ((z (xsa σ i)) ||| (2 ^ i))) (xsb σ i) ((ec_up z (xsa σ i) ((z (xsa σ i)) ||| (2 ^ i)) (xsb σ i)) ||| (2 ^ i)) := by exact if_pos c_4
            rw [ez] at kk_i
            exact kk_i _ _ Z ls (lv_sub hl [0, 1] rfl)
          · skip
            refine lv_goto (tgt := 83) F.1 F.2.1 dX0_connect_46 (by decide) ?_
            refine en_iinc (lv' := [(1, .int (nI (i + 1))), (0, .ref h)]) F dX0_connect_83 hl (k := 0) rfl (by decide) rfl (fun ls hl => ?_)
            refine lv_goto (tgt := 30) F.1 F.2.1 dX0_connect_86 (by decide) ?_
            have ez : (ec_ls (xso σ) (xsa σ) (xsb σ)) i z = z := by exact if_neg c_4
            rw [ez] at kk_i
            exact kk_i _ _ Z ls (lv_sub hl [0, 1] rfl)
      · intro H locs Z ls hl
        have Z : ec_Z D G A s (XW G h ad (xsLL σ (x_li σ) (x_cl σ).2)) H locs := Z
        refine lv_iload_n F.1 F.2.1 dX0_connect_30 rfl (lv_at hl 0 rfl) ?_
        refine lv_bipush (v := (nI 12)) F.1 F.2.1 dX0_connect_31 (by decide) ?_
        refine en_icmp_ge (tgt := 89) F (by omega) (by omega) dX0_connect_33 (by decide) (fun c_5 => ?_) (fun c_5 => ?_)
        · skip
          refine lv_iconst (v := (nI 0)) F.1 F.2.1 dX0_connect_89 (by decide) ?_
          refine lv_istore_n (lv' := [(1, .int (nI 0)), (0, .ref h)]) F.1 F.2.1 dX0_connect_90 rfl hl (by decide) rfl (fun ls hl => ?_)
          refine ec_lp_run (S := ec_A) (fun _ z => ec_rd (xso σ) (xsa σ) (xsb σ) ec_LF z) (fun i z => ∀ q, q < 12 → z q ≤ rk q + 1) (fun i z => ∀ (H : Heap) (locs : List Loc), ec_Z D G A s (XW G h ad (xsLL σ (x_li σ) z)) H locs → ∀ ls : Array Slot, lv_has ls 4 [(1, .int (nI i)), (0, .ref h)] → W p l e (ec_rm 0) s m args below meth c H locs 0 0 Q (F0 m 91 ls [])) 12 (fun _ _ _ h => ec_lev_rd hac hW.2.2.2.1 hW.2.2.2.2.1 h) ?_ 12 0 ((x_cl σ).2) (Nat.zero_add _) (x_cl_lv σ rk) ?_ _ _ Z ls (lv_sub hl [0, 1] rfl)
          · intro i z hi_i hz_i kk_i H locs Z ls hl
            refine lv_iload_n F.1 F.2.1 dX0_connect_91 rfl (lv_at hl 0 rfl) ?_
            refine lv_bipush (v := (nI 12)) F.1 F.2.1 dX0_connect_92 (by decide) ?_
            refine en_icmp_ge (tgt := 191) F (Nat.lt_of_lt_of_le hi_i (by decide)) (by omega) dX0_connect_94 (by decide) (fun c_6 => ?_) (fun c_6 => ?_)
            · exact absurd hi_i (Nat.not_lt.mpr c_6)
            · skip
              refine lv_iconst (v := (nI 0)) F.1 F.2.1 dX0_connect_97 (by decide) ?_
              refine lv_istore_n (lv' := [(2, .int (nI 0)), (1, .int (nI i)), (0, .ref h)]) F.1 F.2.1 dX0_connect_98 rfl hl (by decide) rfl (fun ls hl => ?_)
              refine ec_lp_run (S := ec_A) (ec_st (xso σ) (xsa σ) (xsb σ) ec_LF) (fun j y => ∀ q, q < 12 → y q ≤ rk q + 1) (fun j y => ∀ (H : Heap) (locs : List Loc), ec_Z D G A s (XW G h ad (xsLL σ (x_li σ) y)) H locs → ∀ ls : Array Slot, lv_has ls 4 [(2, .int (nI j)), (1, .int (nI i)), (0, .ref h)] → W p l e (ec_rm 0) s m args below meth c H locs 0 0 Q (F0 m 99 ls [])) 12 (fun _ _ hi h => ec_lev_step hac hW.2.2.2.1 hW.2.2.2.2.1 h _ hi) ?_ 12 0 z (Nat.zero_add _) hz_i ?_ _ _ Z ls (lv_sub hl [0, 1, 2] rfl)
              · intro j y hi_j hz_j kk_j H locs Z ls hl
                refine lv_iload_n F.1 F.2.1 dX0_connect_99 rfl (lv_at hl 0 rfl) ?_
                refine lv_bipush (v := (nI 12)) F.1 F.2.1 dX0_connect_100 (by decide) ?_
                refine en_icmp_ge (tgt := 185) F (Nat.lt_of_lt_of_le hi_j (by decide)) (by omega) dX0_connect_102 (by decide) (fun c_7 => ?_) (fun c_7 => ?_)
                · exact absurd hi_j (Nat.not_lt.mpr c_7)
                · skip
                  refine lv_aload_n F.1 F.2.1 dX0_connect_105 rfl (lv_at hl 2 rfl) ?_
                  refine ex_get F Z 0 (by decide) rfl rfl q33 dX0_connect_106 ?_
                  refine lv_iload_n F.1 F.2.1 dX0_connect_109 rfl (lv_at hl 0 rfl) ?_
                  refine en_bald F Z 1 (xso σ) rfl hi_j dX0_connect_110 ?_
                  refine lv_iconst (v := (nI 1)) F.1 F.2.1 dX0_connect_111 (by decide) ?_
                  refine en_icmp_eq (tgt := 118) F (Nat.lt_of_lt_of_le (hW.1 _ hi_j) (by decide)) (by omega) dX0_connect_112 (by decide) (fun c_8 => ?_) (fun c_8 => ?_)
                  · skip
                    refine lv_aload_n F.1 F.2.1 dX0_connect_118 rfl (lv_at hl 2 rfl) ?_
                    refine ex_get F Z 7 (by decide) rfl rfl q40 dX0_connect_119 ?_
                    refine lv_aload_n F.1 F.2.1 dX0_connect_122 rfl (lv_at hl 2 rfl) ?_
                    refine ex_get F Z 3 (by decide) rfl rfl q36 dX0_connect_123 ?_
                    refine lv_iload_n F.1 F.2.1 dX0_connect_126 rfl (lv_at hl 0 rfl) ?_
                    refine en_bald F Z 4 (xsa σ) rfl hi_j dX0_connect_127 ?_
                    refine en_bald F Z 8 y rfl (hW.2.2.2.1 _ hi_j) dX0_connect_128 ?_
                    refine lv_aload_n F.1 F.2.1 dX0_connect_129 rfl (lv_at hl 2 rfl) ?_
                    refine ex_get F Z 7 (by decide) rfl rfl q40 dX0_connect_130 ?_
                    refine lv_aload_n F.1 F.2.1 dX0_connect_133 rfl (lv_at hl 2 rfl) ?_
                    refine ex_get F Z 4 (by decide) rfl rfl q37 dX0_connect_134 ?_
                    refine lv_iload_n F.1 F.2.1 dX0_connect_137 rfl (lv_at hl 0 rfl) ?_
                    refine en_bald F Z 5 (xsb σ) rfl hi_j dX0_connect_138 ?_
                    refine en_bald F Z 8 y rfl (hW.2.2.2.2.1 _ hi_j) dX0_connect_139 ?_
                    refine en_icmp_le (tgt := 157) F (Nat.lt_of_lt_of_le ((ec_lev13 hac hz_j) _ (hW.2.2.2.1 _ hi_j)) (by decide)) (Nat.lt_of_lt_of_le ((ec_lev13 hac hz_j) _ (hW.2.2.2.2.1 _ hi_j)) (by decide)) dX0_connect_140 (by decide) (fun c_9 => ?_) (fun c_9 => ?_)
                    · skip
                      refine lv_aload_n F.1 F.2.1 dX0_connect_157 rfl (lv_at hl 2 rfl) ?_
                      refine ex_get F Z 7 (by decide) rfl rfl q40 dX0_connect_158 ?_
                      refine lv_aload_n F.1 F.2.1 dX0_connect_161 rfl (lv_at hl 2 rfl) ?_
                      refine ex_get F Z 4 (by decide) rfl rfl q37 dX0_connect_162 ?_
                      refine lv_iload_n F.1 F.2.1 dX0_connect_165 rfl (lv_at hl 0 rfl) ?_
                      refine en_bald F Z 5 (xsb σ) rfl hi_j dX0_connect_166 ?_
                      refine en_bald F Z 8 y rfl (hW.2.2.2.2.1 _ hi_j) dX0_connect_167 ?_
                      refine lv_istore_n (lv' := [(3, .int (nI (y (xsb σ j)))), (2, .int (nI j)), (1, .int (nI i)), (0, .ref h)]) F.1 F.2.1 dX0_connect_168 rfl hl (by decide) rfl (fun ls hl => ?_)
                      refine lv_aload_n F.1 F.2.1 dX0_connect_169 rfl (lv_at hl 3 rfl) ?_
                      refine ex_get F Z 7 (by decide) rfl rfl q40 dX0_connect_170 ?_
                      refine lv_iload_n F.1 F.2.1 dX0_connect_173 rfl (lv_at hl 1 rfl) ?_
                      refine lv_iload_n F.1 F.2.1 dX0_connect_174 rfl (lv_at hl 0 rfl) ?_
                      refine lv_iconst (v := (nI 1)) F.1 F.2.1 dX0_connect_175 (by decide) ?_
                      refine en_iadd F dX0_connect_176 ?_
                      refine en_i2b F (Nat.lt_of_lt_of_le (Nat.add_lt_add_right ((ec_lev13 hac hz_j) _ (hW.2.2.2.2.1 _ hi_j)) 1) (by decide)) dX0_connect_177 ?_
                      refine en_bast (ws' := XW G h ad (xsLL σ (x_li σ) (ec_up y j (y (xsb σ j) + 1)))) F Z 8 y rfl hi_j (Nat.lt_of_lt_of_le (Nat.add_lt_add_right ((ec_lev13 hac hz_j) _ (hW.2.2.2.2.1 _ hi_j)) 1) (by decide)) rfl dX0_connect_178 (fun H locs Z => ?_)
                      refine en_iinc (lv' := [(2, .int (nI (j + 1))), (3, .int (nI (y (xsb σ j)))), (1, .int (nI i)), (0, .ref h)]) F dX0_connect_179 hl (k := 1) rfl (by decide) rfl (fun ls hl => ?_)
                      refine lv_goto (tgt := 99) F.1 F.2.1 dX0_connect_182 (by decide) ?_
                      have ez : (ec_st (xso σ) (xsa σ) (xsb σ) ec_LF) j y = ec_up y j (y (xsb σ j) + 1) := by simp [ec_st, ec_LF, ec_mx, c_8, Nat.not_lt.mpr c_9]
                      rw [ez] at kk_j
                      exact kk_j _ _ Z ls (lv_sub hl [0, 2, 3] rfl)
                    · skip
                      refine lv_aload_n F.1 F.2.1 dX0_connect_143 rfl (lv_at hl 2 rfl) ?_
                      refine ex_get F Z 7 (by decide) rfl rfl q40 dX0_connect_144 ?_
                      refine lv_aload_n F.1 F.2.1 dX0_connect_147 rfl (lv_at hl 2 rfl) ?_
                      refine ex_get F Z 3 (by decide) rfl rfl q36 dX0_connect_148 ?_
                      refine lv_iload_n F.1 F.2.1 dX0_connect_151 rfl (lv_at hl 0 rfl) ?_
                      refine en_bald F Z 4 (xsa σ) rfl hi_j dX0_connect_152 ?_
                      refine en_bald F Z 8 y rfl (hW.2.2.2.1 _ hi_j) dX0_connect_153 ?_
                      refine lv_goto (tgt := 168) F.1 F.2.1 dX0_connect_154 (by decide) ?_
                      refine lv_istore_n (lv' := [(3, .int (nI (y (xsa σ j)))), (2, .int (nI j)), (1, .int (nI i)), (0, .ref h)]) F.1 F.2.1 dX0_connect_168 rfl hl (by decide) rfl (fun ls hl => ?_)
                      refine lv_aload_n F.1 F.2.1 dX0_connect_169 rfl (lv_at hl 3 rfl) ?_
                      refine ex_get F Z 7 (by decide) rfl rfl q40 dX0_connect_170 ?_
                      refine lv_iload_n F.1 F.2.1 dX0_connect_173 rfl (lv_at hl 1 rfl) ?_
                      refine lv_iload_n F.1 F.2.1 dX0_connect_174 rfl (lv_at hl 0 rfl) ?_
                      refine lv_iconst (v := (nI 1)) F.1 F.2.1 dX0_connect_175 (by decide) ?_
                      refine en_iadd F dX0_connect_176 ?_
                      refine en_i2b F (Nat.lt_of_lt_of_le (Nat.add_lt_add_right ((ec_lev13 hac hz_j) _ (hW.2.2.2.1 _ hi_j)) 1) (by decide)) dX0_connect_177 ?_
                      refine en_bast (ws' := XW G h ad (xsLL σ (x_li σ) (ec_up y j (y (xsa σ j) + 1)))) F Z 8 y rfl hi_j (Nat.lt_of_lt_of_le (Nat.add_lt_add_right ((ec_lev13 hac hz_j) _ (hW.2.2.2.1 _ hi_j)) 1) (by decide)) rfl dX0_connect_178 (fun H locs Z => ?_)
                      refine en_iinc (lv' := [(2, .int (nI (j + 1))), (3, .int (nI (y (xsa σ j)))), (1, .int (nI i)), (0, .ref h)]) F dX0_connect_179 hl (k := 1) rfl (by decide) rfl (fun ls hl => ?_)
                      refine lv_goto (tgt := 99) F.1 F.2.1 dX0_connect_182 (by decide) ?_
                      have ez : (ec_st (xso σ) (xsa σ) (xsb σ) ec_LF) j y = ec_up y j (y (xsa σ j) + 1) := by simp [ec_st, ec_LF, ec_mx, c_8, c_9]
                      rw [ez] at kk_j
                      exact kk_j _ _ Z ls (lv_sub hl [0, 2, 3] rfl)
                  · skip
                    refine lv_goto (tgt := 179) F.1 F.2.1 dX0_connect_115 (by decide) ?_
                    refine en_iinc (lv' := [(2, .int (nI (j + 1))), (1, .int (nI i)), (0, .ref h)]) F dX0_connect_179 hl (k := 0) rfl (by decide) rfl (fun ls hl => ?_)
                    refine lv_goto (tgt := 99) F.1 F.2.1 dX0_connect_182 (by decide) ?_
                    have ez : (ec_st (xso σ) (xsa σ) (xsb σ) ec_LF) j y = y := by exact if_neg c_8
                    rw [ez] at kk_j
                    exact kk_j _ _ Z ls (lv_sub hl [0, 1, 2] rfl)
              · intro H locs Z ls hl
                refine lv_iload_n F.1 F.2.1 dX0_connect_99 rfl (lv_at hl 0 rfl) ?_
                refine lv_bipush (v := (nI 12)) F.1 F.2.1 dX0_connect_100 (by decide) ?_
                refine en_icmp_ge (tgt := 185) F (by omega) (by omega) dX0_connect_102 (by decide) (fun c_10 => ?_) (fun c_10 => ?_)
                · skip
                  refine en_iinc (lv' := [(1, .int (nI (i + 1))), (2, .int (nI 12)), (0, .ref h)]) F dX0_connect_185 hl (k := 1) rfl (by decide) rfl (fun ls hl => ?_)
                  refine lv_goto (tgt := 91) F.1 F.2.1 dX0_connect_188 (by decide) ?_
                  exact kk_i _ _ Z ls (lv_sub hl [0, 2] rfl)
                · exact absurd c_10 (by decide)
          · intro H locs Z ls hl
            refine lv_iload_n F.1 F.2.1 dX0_connect_91 rfl (lv_at hl 0 rfl) ?_
            refine lv_bipush (v := (nI 12)) F.1 F.2.1 dX0_connect_92 (by decide) ?_
            refine en_icmp_ge (tgt := 191) F (by omega) (by omega) dX0_connect_94 (by decide) (fun c_11 => ?_) (fun c_11 => ?_)
            · skip
              refine ret _ _ _ _ _ Z ?_ dX0_connect_191
              exact rfl
            · exact absurd c_11 (by decide)
        · exact absurd c_5 (by decide)
    · exact absurd c_2 (by decide)
set_option maxHeartbeats 4000000 in
theorem x_sample_m (l : Launch) (D : va_G) (G : ec_G) (h : Nat) (ad : Nat → Nat) (sz : Nat) (σ : XS) (k : Nat) (hk : k < 12) (hW : XWF σ) : ec_Mv l yX0_sample cX0_sample 4 1 D G (XW G h ad) h [.int (nI k)] σ sz (fun σ' => σ' = x_sample σ k) := by
  refine ec_walk_v RX0 (by decide) rfl (Nat.le_of_ble_eq_true rfl) ?_
  intro p e s m below meth c A args Q F hA ret Z ls hl
  have hl : lv_has ls 4 [(0, .ref h), (1, .int (nI k))] := hl
  refine lv_iconst (v := (nI 0)) F.1 F.2.1 dX0_sample_0 (by decide) ?_
  refine lv_istore_n (lv' := [(2, .int (nI 0)), (0, .ref h), (1, .int (nI k))]) F.1 F.2.1 dX0_sample_1 rfl hl (by decide) rfl (fun ls hl => ?_)
  refine ec_lp_run (S := Nat × ec_A) (ec_sm (xso σ) (xvl σ) (xop σ) (xsa σ) (xsb σ) (xck σ) k) (fun i z => z.1 < 4096 ∧ ∀ q, q < 12 → z.2 q < 16) (fun i z => ∀ (H : Heap) (locs : List Loc), ec_Z D G A s (XW G h ad (xsLC σ z.1 z.2)) H locs → ∀ ls : Array Slot, lv_has ls 4 [(2, .int (nI i)), (0, .ref h), (1, .int (nI k))] → W p l e (ec_rm 1) s m args below meth c H locs 0 0 Q (F0 m 2 ls [])) 12 (fun _ _ hi h => ec_sm_lt hW.2.1 hW.2.2.2.1 hW.2.2.2.2.1 h _ hi) ?_ 12 0 (xld σ, xcm σ) (Nat.zero_add _) ⟨hW.2.2.2.2.2.2.2.2.2.1, hW.2.2.2.2.2.2.2.2.2.2⟩ ?_ _ _ Z ls (lv_sub hl [0, 1, 2] rfl)
  · intro i z hi_i hz_i kk_i H locs Z ls hl
    refine lv_iload_n F.1 F.2.1 dX0_sample_2 rfl (lv_at hl 0 rfl) ?_
    refine lv_bipush (v := (nI 12)) F.1 F.2.1 dX0_sample_3 (by decide) ?_
    refine en_icmp_ge (tgt := 73) F (Nat.lt_of_lt_of_le hi_i (by decide)) (by omega) dX0_sample_5 (by decide) (fun c_1 => ?_) (fun c_1 => ?_)
    · exact absurd hi_i (Nat.not_lt.mpr c_1)
    · skip
      refine lv_aload_n F.1 F.2.1 dX0_sample_8 rfl (lv_at hl 1 rfl) ?_
      refine ex_get F Z 0 (by decide) rfl rfl q33 dX0_sample_9 ?_
      refine lv_iload_n F.1 F.2.1 dX0_sample_12 rfl (lv_at hl 0 rfl) ?_
      refine en_bald F Z 1 (xso σ) rfl hi_i dX0_sample_13 ?_
      refine lv_iconst (v := (nI 2)) F.1 F.2.1 dX0_sample_14 (by decide) ?_
      refine en_icmp_ne (tgt := 67) F (Nat.lt_of_lt_of_le (hW.1 _ hi_i) (by decide)) (by omega) dX0_sample_15 (by decide) (fun c_2 => ?_) (fun c_2 => ?_)
      · skip
        refine en_iinc (lv' := [(2, .int (nI (i + 1))), (0, .ref h), (1, .int (nI k))]) F dX0_sample_67 hl (k := 0) rfl (by decide) rfl (fun ls hl => ?_)
        refine lv_goto (tgt := 2) F.1 F.2.1 dX0_sample_70 (by decide) ?_
        have ez : (ec_sm (xso σ) (xvl σ) (xop σ) (xsa σ) (xsb σ) (xck σ) k) i z = z := by simp [ec_sm, c_2]
        rw [ez] at kk_i
        exact kk_i _ _ Z ls (lv_sub hl [0, 1, 2] rfl)
      · skip
        refine lv_aload_n F.1 F.2.1 dX0_sample_18 rfl (lv_at hl 1 rfl) ?_
        refine ex_get F Z 5 (by decide) rfl rfl q38 dX0_sample_19 ?_
        refine lv_iload_n F.1 F.2.1 dX0_sample_22 rfl (lv_at hl 0 rfl) ?_
        refine en_bald F Z 6 (xck σ) rfl hi_i dX0_sample_23 ?_
        refine lv_iload_n F.1 F.2.1 dX0_sample_24 rfl (lv_at hl 2 rfl) ?_
        refine en_icmp_eq (tgt := 31) F (Nat.lt_of_lt_of_le (hW.2.2.2.2.2.1 _ hi_i) (by decide)) (Nat.lt_of_lt_of_le hk (by decide)) dX0_sample_25 (by decide) (fun c_3 => ?_) (fun c_3 => ?_)
        · skip
          refine lv_aload_n F.1 F.2.1 dX0_sample_31 rfl (lv_at hl 1 rfl) ?_
          refine lv_iload_n F.1 F.2.1 dX0_sample_32 rfl (lv_at hl 0 rfl) ?_
          refine ec_calli (Wf := XW G h ad) (σ := xsLC σ z.1 z.2) (rest := []) F Z hA (x_formula_m l D G h ad _ (xsLC σ z.1 z.2) i hi_i (xwf_LC hW hz_i.1 hz_i.2)) (cwV 1 F.2.2.2.2 (lw_V q105 q107 qs8 q23 q108) rfl rfl rfl (by decide +kernel) ⟨Nat.le_of_ble_eq_true rfl, Nat.le_of_ble_eq_true rfl⟩) (ex_recv Z) rfl hl.1 rfl (Nat.le_of_ble_eq_true rfl) dX0_sample_33 ⟨Nat.le_of_ble_eq_true rfl, Nat.le_of_ble_eq_true rfl⟩ (fun r σ1 H locs hp Z => ?_)
          have hp1 : r = nI (ec_fm (xop σ i) (xvl σ (xsa σ i)) (xvl σ (xsb σ i))) := hp.1
          have hp2 : σ1 = xsLC σ z.1 z.2 := hp.2
          rw [hp1]
          rw [hp2] at Z
          refine lv_istore_n (lv' := [(3, .int (nI (ec_fm (xop σ i) (xvl σ (xsa σ i)) (xvl σ (xsb σ i))))), (2, .int (nI i)), (0, .ref h), (1, .int (nI k))]) F.1 F.2.1 dX0_sample_36 rfl hl (by decide) rfl (fun ls hl => ?_)
          refine lv_aload_n F.1 F.2.1 dX0_sample_37 rfl (lv_at hl 2 rfl) ?_
          refine ex_get F Z 10 (by decide) rfl rfl q43 dX0_sample_38 ?_
          refine lv_iload_n F.1 F.2.1 dX0_sample_41 rfl (lv_at hl 1 rfl) ?_
          refine lv_iload_n F.1 F.2.1 dX0_sample_42 rfl (lv_at hl 0 rfl) ?_
          refine en_i2b F (Nat.lt_of_lt_of_le (ec_fm_lt (hW.2.1 _ (hW.2.2.2.1 _ hi_i)) (hW.2.1 _ (hW.2.2.2.2.1 _ hi_i))) (by decide)) dX0_sample_43 ?_
          refine en_bast (ws' := XW G h ad (xsLC σ z.1 (ec_up z.2 i (ec_fm (xop σ i) (xvl σ (xsa σ i)) (xvl σ (xsb σ i)))))) F Z 9 z.2 rfl hi_i (Nat.lt_of_lt_of_le (ec_fm_lt (hW.2.1 _ (hW.2.2.2.1 _ hi_i)) (hW.2.1 _ (hW.2.2.2.2.1 _ hi_i))) (by decide)) rfl dX0_sample_44 (fun H locs Z => ?_)
          refine lv_iload_n F.1 F.2.1 dX0_sample_45 rfl (lv_at hl 0 rfl) ?_
          refine lv_aload_n F.1 F.2.1 dX0_sample_46 rfl (lv_at hl 2 rfl) ?_
          refine ex_get F Z 1 (by decide) rfl rfl q34 dX0_sample_47 ?_
          refine lv_iload_n F.1 F.2.1 dX0_sample_50 rfl (lv_at hl 1 rfl) ?_
          refine en_bald F Z 2 (xvl σ) rfl hi_i dX0_sample_51 ?_
          refine en_icmp_eq (tgt := 67) F (Nat.lt_of_lt_of_le (ec_fm_lt (hW.2.1 _ (hW.2.2.2.1 _ hi_i)) (hW.2.1 _ (hW.2.2.2.2.1 _ hi_i))) (by decide)) (Nat.lt_of_lt_of_le (hW.2.1 _ hi_i) (by decide)) dX0_sample_52 (by decide) (fun c_4 => ?_) (fun c_4 => ?_)
          · skip
            refine en_iinc (lv' := [(2, .int (nI (i + 1))), (3, .int (nI (ec_fm (xop σ i) (xvl σ (xsa σ i)) (xvl σ (xsb σ i))))), (0, .ref h), (1, .int (nI k))]) F dX0_sample_67 hl (k := 1) rfl (by decide) rfl (fun ls hl => ?_)
            refine lv_goto (tgt := 2) F.1 F.2.1 dX0_sample_70 (by decide) ?_
            have ez : (ec_sm (xso σ) (xvl σ) (xop σ) (xsa σ) (xsb σ) (xck σ) k) i z = (z.1, ec_up z.2 i (ec_fm (xop σ i) (xvl σ (xsa σ i)) (xvl σ (xsb σ i)))) := by unfold ec_sm; rw [if_pos ⟨c_2, c_3⟩, if_pos c_4]
            rw [ez] at kk_i
            exact kk_i _ _ Z ls (lv_sub hl [0, 2, 3] rfl)
          · skip
            refine lv_aload_n F.1 F.2.1 dX0_sample_55 rfl (lv_at hl 2 rfl) ?_
            refine lv_dup F.1 F.2.1 dX0_sample_56 rfl ?_
            refine ex_get (v := .int (nI z.1)) F Z 9 (by decide) rfl rfl q42 dX0_sample_57 ?_
            refine lv_iconst (v := (nI 1)) F.1 F.2.1 dX0_sample_60 (by decide) ?_
            refine lv_iload_n F.1 F.2.1 dX0_sample_61 rfl (lv_at hl 1 rfl) ?_
            refine en_ishl F (Nat.lt_of_lt_of_le hi_i (by decide)) dX0_sample_62 ?_
            refine en_ior F dX0_sample_63 ?_
            refine ex_putL (a := z.1 ||| (2 ^ i)) F Z dX0_sample_64 (fun H locs Z => ?_)
            have Z : ec_Z D G A s (XW G h ad (xsLC σ (z.1 ||| (2 ^ i)) (ec_up z.2 i (ec_fm (xop σ i) (xvl σ (xsa σ i)) (xvl σ (xsb σ i)))))) H locs := Z
            refine en_iinc (lv' := [(2, .int (nI (i + 1))), (3, .int (nI (ec_fm (xop σ i) (xvl σ (xsa σ i)) (xvl σ (xsb σ i))))), (0, .ref h), (1, .int (nI k))]) F dX0_sample_67 hl (k := 1) rfl (by decide) rfl (fun ls hl => ?_)
            refine lv_goto (tgt := 2) F.1 F.2.1 dX0_sample_70 (by decide) ?_
            have ez : (ec_sm (xso σ) (xvl σ) (xop σ) (xsa σ) (xsb σ) (xck σ) k) i z = (z.1 ||| (2 ^ i), ec_up z.2 i (ec_fm (xop σ i) (xvl σ (xsa σ i)) (xvl σ (xsb σ i)))) := by unfold ec_sm; rw [if_pos ⟨c_2, c_3⟩, if_neg c_4]
            rw [ez] at kk_i
            exact kk_i _ _ Z ls (lv_sub hl [0, 2, 3] rfl)
        · skip
          refine lv_goto (tgt := 67) F.1 F.2.1 dX0_sample_28 (by decide) ?_
          refine en_iinc (lv' := [(2, .int (nI (i + 1))), (0, .ref h), (1, .int (nI k))]) F dX0_sample_67 hl (k := 0) rfl (by decide) rfl (fun ls hl => ?_)
          refine lv_goto (tgt := 2) F.1 F.2.1 dX0_sample_70 (by decide) ?_
          have ez : (ec_sm (xso σ) (xvl σ) (xop σ) (xsa σ) (xsb σ) (xck σ) k) i z = z := by simp [ec_sm, c_3]
          rw [ez] at kk_i
          exact kk_i _ _ Z ls (lv_sub hl [0, 1, 2] rfl)
  · intro H locs Z ls hl
    refine lv_iload_n F.1 F.2.1 dX0_sample_2 rfl (lv_at hl 0 rfl) ?_
    refine lv_bipush (v := (nI 12)) F.1 F.2.1 dX0_sample_3 (by decide) ?_
    refine en_icmp_ge (tgt := 73) F (by omega) (by omega) dX0_sample_5 (by decide) (fun c_5 => ?_) (fun c_5 => ?_)
    · skip
      refine ret _ _ _ _ _ Z ?_ dX0_sample_73
      exact rfl
    · exact absurd c_5 (by decide)
set_option maxHeartbeats 4000000 in
theorem x_define_m (l : Launch) (D : va_G) (G : ec_G) (h : Nat) (ad : Nat → Nat) (sz : Nat) (σ : XS) (k w o a b : Nat) (hk : k < 12) (hw : w < 3) (ho : o < 9) (ha : a < 12) (hb : b < 12) (hW : XWF σ) (rk : ec_A) (hac : ec_Ac (ec_up (xso σ) k w) (ec_up (xsa σ) k a) (ec_up (xsb σ) k b) rk) : ec_Mv l yX0_define cX0_define 6 2 D G (XW G h ad) h [.int (nI k), .int (nI w), .int (nI o), .int (nI a), .int (nI b)] σ sz (fun σ' => σ' = x_define σ k w o a b) := by
  refine ec_walk_v RX0 (by decide) rfl (Nat.le_of_ble_eq_true rfl) ?_
  intro p e s m below meth c A args Q F hA ret Z ls hl
  have hl : lv_has ls 6 [(0, .ref h), (1, .int (nI k)), (2, .int (nI w)), (3, .int (nI o)), (4, .int (nI a)), (5, .int (nI b))] := hl
  refine lv_aload_n F.1 F.2.1 dX0_define_0 rfl (lv_at hl 0 rfl) ?_
  refine ex_get F Z 0 (by decide) rfl rfl q33 dX0_define_1 ?_
  refine lv_iload_n F.1 F.2.1 dX0_define_4 rfl (lv_at hl 1 rfl) ?_
  refine lv_iload_n F.1 F.2.1 dX0_define_5 rfl (lv_at hl 2 rfl) ?_
  refine en_i2b F (Nat.lt_of_lt_of_le hw (by decide)) dX0_define_6 ?_
  refine en_bast (ws' := XW G h ad (xsDf σ (ec_up (xso σ) k w) (xop σ) (xsa σ) (xsb σ))) F Z 1 (xso σ) rfl hk (Nat.lt_of_lt_of_le hw (by decide)) rfl dX0_define_7 (fun H locs Z => ?_)
  refine lv_aload_n F.1 F.2.1 dX0_define_8 rfl (lv_at hl 0 rfl) ?_
  refine ex_get F Z 2 (by decide) rfl rfl q35 dX0_define_9 ?_
  refine lv_iload_n F.1 F.2.1 dX0_define_12 rfl (lv_at hl 1 rfl) ?_
  refine lv_iload_n F.1 F.2.1 dX0_define_13 rfl (lv_at hl 3 rfl) ?_
  refine en_i2b F (Nat.lt_of_lt_of_le ho (by decide)) dX0_define_14 ?_
  refine en_bast (ws' := XW G h ad (xsDf σ (ec_up (xso σ) k w) (ec_up (xop σ) k o) (xsa σ) (xsb σ))) F Z 3 (xop σ) rfl hk (Nat.lt_of_lt_of_le ho (by decide)) rfl dX0_define_15 (fun H locs Z => ?_)
  refine lv_aload_n F.1 F.2.1 dX0_define_16 rfl (lv_at hl 0 rfl) ?_
  refine ex_get F Z 3 (by decide) rfl rfl q36 dX0_define_17 ?_
  refine lv_iload_n F.1 F.2.1 dX0_define_20 rfl (lv_at hl 1 rfl) ?_
  refine lv_iload F.1 F.2.1 dX0_define_21 (lv_at hl 4 rfl) ?_
  refine en_i2b F (Nat.lt_of_lt_of_le ha (by decide)) dX0_define_23 ?_
  refine en_bast (ws' := XW G h ad (xsDf σ (ec_up (xso σ) k w) (ec_up (xop σ) k o) (ec_up (xsa σ) k a) (xsb σ))) F Z 4 (xsa σ) rfl hk (Nat.lt_of_lt_of_le ha (by decide)) rfl dX0_define_24 (fun H locs Z => ?_)
  refine lv_aload_n F.1 F.2.1 dX0_define_25 rfl (lv_at hl 0 rfl) ?_
  refine ex_get F Z 4 (by decide) rfl rfl q37 dX0_define_26 ?_
  refine lv_iload_n F.1 F.2.1 dX0_define_29 rfl (lv_at hl 1 rfl) ?_
  refine lv_iload F.1 F.2.1 dX0_define_30 (lv_at hl 5 rfl) ?_
  refine en_i2b F (Nat.lt_of_lt_of_le hb (by decide)) dX0_define_32 ?_
  refine en_bast (ws' := XW G h ad (xsDf σ (ec_up (xso σ) k w) (ec_up (xop σ) k o) (ec_up (xsa σ) k a) (ec_up (xsb σ) k b))) F Z 5 (xsb σ) rfl hk (Nat.lt_of_lt_of_le hb (by decide)) rfl dX0_define_33 (fun H locs Z => ?_)
  refine lv_aload_n F.1 F.2.1 dX0_define_34 rfl (lv_at hl 0 rfl) ?_
  have Z : ec_Z D G A s (XW G h ad (x_df σ k w o a b)) H locs := Z
  have hW1 := xwf_df (k := k) hW hw ho ha hb
  have hW2 := xwf_connect hW1 hac
  refine ec_callv (Wf := XW G h ad) (σ := x_df σ k w o a b) (rest := []) F Z hA (x_connect_m l D G h ad _ (x_df σ k w o a b) hW1 rk hac) (cwV 0 F.2.2.2.2 (lw_V q93 q95 qs5 q23 q96) rfl rfl rfl (by decide +kernel) ⟨Nat.le_of_ble_eq_true rfl, Nat.le_of_ble_eq_true rfl⟩) (ex_recv Z) rfl hl.1 rfl (Nat.le_of_ble_eq_true rfl) dX0_define_35 ⟨Nat.le_of_ble_eq_true rfl, Nat.le_of_ble_eq_true rfl⟩ (fun σ1 H locs hp Z => ?_)
  have hp : σ1 = x_connect (x_df σ k w o a b) := hp
  rw [hp] at Z
  refine lv_iload_n F.1 F.2.1 dX0_define_38 rfl (lv_at hl 2 rfl) ?_
  refine lv_iconst (v := (nI 1)) F.1 F.2.1 dX0_define_39 (by decide) ?_
  refine en_icmp_ne (tgt := 55) F (Nat.lt_of_lt_of_le hw (by decide)) (by omega) dX0_define_40 (by decide) (fun c_1 => ?_) (fun c_1 => ?_)
  · skip
    refine lv_aload_n F.1 F.2.1 dX0_define_55 rfl (lv_at hl 0 rfl) ?_
    refine ec_calli (Wf := XW G h ad) (σ := x_connect (x_df σ k w o a b)) (rest := []) F Z hA (x_settle_m l D G h ad _ (x_connect (x_df σ k w o a b)) hW2) (cwV 0 F.2.2.2.2 (lw_V q97 q99 qs6 q23 q100) rfl rfl rfl (by decide +kernel) ⟨Nat.le_of_ble_eq_true rfl, Nat.le_of_ble_eq_true rfl⟩) (ex_recv Z) rfl hl.1 rfl (Nat.le_of_ble_eq_true rfl) dX0_define_56 ⟨Nat.le_of_ble_eq_true rfl, Nat.le_of_ble_eq_true rfl⟩ (fun r σ1 H locs hp Z => ?_)
    obtain ⟨hp1, hp2⟩ := hp
    rw [hp1]
    rw [hp2] at Z
    refine lv_pop F.1 F.2.1 dX0_define_59 rfl ?_
    refine ret _ _ _ _ _ Z ?_ dX0_define_60
    show _ = x_settle (x_wk (x_connect (x_df σ k w o a b)) k w)
    rw [x_wk, if_neg c_1]
  · skip
    refine lv_aload_n F.1 F.2.1 dX0_define_43 rfl (lv_at hl 0 rfl) ?_
    refine lv_dup F.1 F.2.1 dX0_define_44 rfl ?_
    refine ex_get (v := .int (nI (xaw (x_connect (x_df σ k w o a b))))) F Z 8 (by decide) rfl rfl q41 dX0_define_45 ?_
    refine lv_iconst (v := (nI 1)) F.1 F.2.1 dX0_define_48 (by decide) ?_
    refine lv_iload_n F.1 F.2.1 dX0_define_49 rfl (lv_at hl 1 rfl) ?_
    refine en_ishl F (Nat.lt_of_lt_of_le hk (by decide)) dX0_define_50 ?_
    refine en_ior F dX0_define_51 ?_
    refine ex_putA (a := (xaw (x_connect (x_df σ k w o a b))) ||| (2 ^ k)) F Z dX0_define_52 (fun H locs Z => ?_)
    have Z : ec_Z D G A s (XW G h ad (xsAw (x_connect (x_df σ k w o a b)) ((xaw (x_connect (x_df σ k w o a b))) ||| (2 ^ k)))) H locs := Z
    refine lv_aload_n F.1 F.2.1 dX0_define_55 rfl (lv_at hl 0 rfl) ?_
    refine ec_calli (Wf := XW G h ad) (σ := xsAw (x_connect (x_df σ k w o a b)) ((xaw (x_connect (x_df σ k w o a b))) ||| (2 ^ k))) (rest := []) F Z hA (x_settle_m l D G h ad _ (xsAw (x_connect (x_df σ k w o a b)) ((xaw (x_connect (x_df σ k w o a b))) ||| (2 ^ k))) (xwf_aw hW2 (ec_or_lt hW2.2.2.2.2.2.2.2.2.1 (ec_pow_lt hk)))) (cwV 0 F.2.2.2.2 (lw_V q97 q99 qs6 q23 q100) rfl rfl rfl (by decide +kernel) ⟨Nat.le_of_ble_eq_true rfl, Nat.le_of_ble_eq_true rfl⟩) (ex_recv Z) rfl hl.1 rfl (Nat.le_of_ble_eq_true rfl) dX0_define_56 ⟨Nat.le_of_ble_eq_true rfl, Nat.le_of_ble_eq_true rfl⟩ (fun r σ1 H locs hp Z => ?_)
    obtain ⟨hp1, hp2⟩ := hp
    rw [hp1]
    rw [hp2] at Z
    refine lv_pop F.1 F.2.1 dX0_define_59 rfl ?_
    refine ret _ _ _ _ _ Z ?_ dX0_define_60
    show _ = x_settle (x_wk (x_connect (x_df σ k w o a b)) k w)
    rw [x_wk, if_pos c_1]
set_option maxHeartbeats 4000000 in
theorem x_change_m (l : Launch) (D : va_G) (G : ec_G) (h : Nat) (ad : Nat → Nat) (sz : Nat) (σ : XS) (k v : Nat) (hk : k < 12) (hv : v < 16) (hW : XWF σ) : ec_Mi l yX0_change cX0_change 5 (some .int) 2 D G (XW G h ad) h [.int (nI k), .int (nI v)] σ sz (fun r σ' => r = nI (x_chN σ k v) ∧ σ' = x_change σ k v) := by
  refine ec_walk_i RX0 (by decide) rfl (Nat.le_of_ble_eq_true rfl) ?_
  intro p e s m below meth c A args Q F hA ret Z ls hl
  have hl : lv_has ls 5 [(0, .ref h), (1, .int (nI k)), (2, .int (nI v))] := hl
  have hW1 := xwf_c1 hW k v
  have hW2 := xwf_c2 hW hk hv
  have hW4 := xwf_c4 hW hk hv
  have key42 : ∀ (H : Heap) (locs : List Loc), ec_Z D G A s (XW G h ad (x_c1 σ k v)) H locs → ∀ ls : Array Slot, lv_has ls 5 [(3, .int (nI (if xvl (x_c1 σ k v) k = v then 0 else 1))), (0, .ref h), (1, .int (nI k)), (2, .int (nI v))] → W p l e (ec_rm 2) s m args below meth c H locs 0 0 Q (F0 m 42 ls []) := by
    intro H locs Z ls hl
    refine lv_aload_n F.1 F.2.1 dX0_change_42 rfl (lv_at hl 1 rfl) ?_
    refine lv_iload_n F.1 F.2.1 dX0_change_43 rfl (lv_at hl 2 rfl) ?_
    refine lv_iload_n F.1 F.2.1 dX0_change_44 rfl (lv_at hl 3 rfl) ?_
    refine ec_callv (Wf := XW G h ad) (σ := x_c1 σ k v) (rest := []) F Z hA (x_put_m l D G h ad _ (x_c1 σ k v) k v hk hv hW1) (cwV 2 F.2.2.2.2 (lw_V q109 q111 qs9 q23 q112) rfl rfl rfl (by decide +kernel) ⟨Nat.le_of_ble_eq_true rfl, Nat.le_of_ble_eq_true rfl⟩) (ex_recv Z) rfl hl.1 rfl (Nat.le_of_ble_eq_true rfl) dX0_change_45 ⟨Nat.le_of_ble_eq_true rfl, Nat.le_of_ble_eq_true rfl⟩ (fun σ1 H locs hp Z => ?_)
    have hp : σ1 = x_c2 σ k v := hp
    rw [hp] at Z
    refine lv_iconst (v := (nI 0)) F.1 F.2.1 dX0_change_48 (by decide) ?_
    refine lv_istore (lv' := [(4, .int (nI 0)), (3, .int (nI (if xvl (x_c1 σ k v) k = v then 0 else 1))), (0, .ref h), (1, .int (nI k)), (2, .int (nI v))]) F.1 F.2.1 dX0_change_49 hl (by decide) rfl (fun ls hl => ?_)
    refine ec_lp_run (S := Nat × ec_A × Nat) (ec_p2 (xli (x_c2 σ k v)) (xcm (x_c2 σ k v)) (xld (x_c2 σ k v))) (fun i z => (∀ q, q < 12 → z.2.1 q < 16) ∧ z.2.2 < 4096) (fun i z => ∀ (H : Heap) (locs : List Loc), ec_Z D G A s (XW G h ad (xsVA (x_c2 σ k v) z.2.1 z.2.2)) H locs → ∀ ls : Array Slot, lv_has ls 5 [(4, .int (nI i)), (3, .int (nI z.1)), (0, .ref h), (1, .int (nI k)), (2, .int (nI v))] → W p l e (ec_rm 2) s m args below meth c H locs 0 0 Q (F0 m 51 ls [])) 12 (fun _ _ hi h => ec_p2_lt hW2.2.2.2.2.2.2.1 hW2.2.2.2.2.2.2.2.2.2.2 h _ hi) ?_ 12 0 ((if xvl (x_c1 σ k v) k = v then 0 else 1), xvl (x_c2 σ k v), xaw (x_c2 σ k v)) (Nat.zero_add _) ⟨hW2.2.1, hW2.2.2.2.2.2.2.2.2.1⟩ ?_ _ _ Z ls (lv_sub hl [0, 1, 2, 3, 4] rfl)
    · intro i z hi_i hz_i kk_i H locs Z ls hl
      refine lv_iload F.1 F.2.1 dX0_change_51 (lv_at hl 0 rfl) ?_
      refine lv_bipush (v := (nI 12)) F.1 F.2.1 dX0_change_53 (by decide) ?_
      refine en_icmp_ge (tgt := 95) F (Nat.lt_of_lt_of_le hi_i (by decide)) (by omega) dX0_change_55 (by decide) (fun c_1 => ?_) (fun c_1 => ?_)
      · exact absurd hi_i (Nat.not_lt.mpr c_1)
      · skip
        refine lv_aload_n F.1 F.2.1 dX0_change_58 rfl (lv_at hl 2 rfl) ?_
        refine ex_get (v := .int (nI (xld (x_c2 σ k v)))) F Z 9 (by decide) rfl rfl q42 dX0_change_59 ?_
        refine lv_iload F.1 F.2.1 dX0_change_62 (lv_at hl 0 rfl) ?_
        refine en_ishr F (Nat.lt_of_lt_of_le hW2.2.2.2.2.2.2.2.2.2.1 (by decide)) (Nat.lt_of_lt_of_le hi_i (by decide)) dX0_change_64 ?_
        refine lv_iconst (v := (nI 1)) F.1 F.2.1 dX0_change_65 (by decide) ?_
        refine en_iand1 F dX0_change_66 ?_
        refine en_ifb_ne (tgt := 73) F dX0_change_67 (by decide) (fun c_2 => ?_) (fun c_2 => ?_)
        · skip
          refine lv_aload_n F.1 F.2.1 dX0_change_73 rfl (lv_at hl 2 rfl) ?_
          refine lv_iload F.1 F.2.1 dX0_change_74 (lv_at hl 0 rfl) ?_
          refine lv_aload_n F.1 F.2.1 dX0_change_76 rfl (lv_at hl 2 rfl) ?_
          refine ex_get F Z 10 (by decide) rfl rfl q43 dX0_change_77 ?_
          refine lv_iload F.1 F.2.1 dX0_change_80 (lv_at hl 0 rfl) ?_
          refine en_bald F Z 9 (xcm (x_c2 σ k v)) rfl hi_i dX0_change_82 ?_
          refine ec_callv (Wf := XW G h ad) (σ := xsVA (x_c2 σ k v) z.2.1 z.2.2) (rest := []) F Z hA (x_put_m l D G h ad _ (xsVA (x_c2 σ k v) z.2.1 z.2.2) i (xcm (x_c2 σ k v) i) hi_i (hW2.2.2.2.2.2.2.2.2.2.2 _ hi_i) (xwf_VA hW2 hz_i.1 hz_i.2)) (cwV 2 F.2.2.2.2 (lw_V q109 q111 qs9 q23 q112) rfl rfl rfl (by decide +kernel) ⟨Nat.le_of_ble_eq_true rfl, Nat.le_of_ble_eq_true rfl⟩) (ex_recv Z) rfl hl.1 rfl (Nat.le_of_ble_eq_true rfl) dX0_change_83 ⟨Nat.le_of_ble_eq_true rfl, Nat.le_of_ble_eq_true rfl⟩ (fun σ1 H locs hp Z => ?_)
          have hp : σ1 = x_put (xsVA (x_c2 σ k v) z.2.1 z.2.2) i (xcm (x_c2 σ k v) i) := hp
          by_cases c9 : z.2.1 i = xcm (x_c2 σ k v) i
          · skip
            have e9 : x_put (xsVA (x_c2 σ k v) z.2.1 z.2.2) i (xcm (x_c2 σ k v) i) = xsVA (x_c2 σ k v) z.2.1 z.2.2 := if_pos c9
            rw [hp, e9] at Z
            have ez : ec_p2 (xli (x_c2 σ k v)) (xcm (x_c2 σ k v)) (xld (x_c2 σ k v)) i z = (z.1 + 1, z.2.1, z.2.2) := by unfold ec_p2; rw [if_pos c_2, if_pos c9]
            rw [ez] at kk_i
            refine en_iinc (lv' := [(3, .int (nI (z.1 + 1))), (4, .int (nI i)), (0, .ref h), (1, .int (nI k)), (2, .int (nI v))]) F dX0_change_86 hl (k := 1) rfl (by decide) rfl (fun ls hl => ?_)
            refine en_iinc (lv' := [(4, .int (nI (i + 1))), (3, .int (nI (z.1 + 1))), (0, .ref h), (1, .int (nI k)), (2, .int (nI v))]) F dX0_change_89 hl (k := 1) rfl (by decide) rfl (fun ls hl => ?_)
            refine lv_goto (tgt := 51) F.1 F.2.1 dX0_change_92 (by decide) ?_
            exact kk_i _ _ Z ls (lv_sub hl [0, 1, 2, 3, 4] rfl)
          · skip
            have e9 : x_put (xsVA (x_c2 σ k v) z.2.1 z.2.2) i (xcm (x_c2 σ k v) i) = xsVA (x_c2 σ k v) (ec_up z.2.1 i (xcm (x_c2 σ k v) i)) (z.2.2 ||| xli (x_c2 σ k v) i) := if_neg c9
            rw [hp, e9] at Z
            have ez : ec_p2 (xli (x_c2 σ k v)) (xcm (x_c2 σ k v)) (xld (x_c2 σ k v)) i z = (z.1 + 1, ec_up z.2.1 i (xcm (x_c2 σ k v) i), z.2.2 ||| xli (x_c2 σ k v) i) := by unfold ec_p2; rw [if_pos c_2, if_neg c9]
            rw [ez] at kk_i
            refine en_iinc (lv' := [(3, .int (nI (z.1 + 1))), (4, .int (nI i)), (0, .ref h), (1, .int (nI k)), (2, .int (nI v))]) F dX0_change_86 hl (k := 1) rfl (by decide) rfl (fun ls hl => ?_)
            refine en_iinc (lv' := [(4, .int (nI (i + 1))), (3, .int (nI (z.1 + 1))), (0, .ref h), (1, .int (nI k)), (2, .int (nI v))]) F dX0_change_89 hl (k := 1) rfl (by decide) rfl (fun ls hl => ?_)
            refine lv_goto (tgt := 51) F.1 F.2.1 dX0_change_92 (by decide) ?_
            exact kk_i _ _ Z ls (lv_sub hl [0, 1, 2, 3, 4] rfl)
        · skip
          refine lv_goto (tgt := 89) F.1 F.2.1 dX0_change_70 (by decide) ?_
          refine en_iinc (lv' := [(4, .int (nI (i + 1))), (3, .int (nI z.1)), (0, .ref h), (1, .int (nI k)), (2, .int (nI v))]) F dX0_change_89 hl (k := 0) rfl (by decide) rfl (fun ls hl => ?_)
          refine lv_goto (tgt := 51) F.1 F.2.1 dX0_change_92 (by decide) ?_
          have ez : (ec_p2 (xli (x_c2 σ k v)) (xcm (x_c2 σ k v)) (xld (x_c2 σ k v))) i z = z := by simp [ec_p2, c_2]
          rw [ez] at kk_i
          exact kk_i _ _ Z ls (lv_sub hl [0, 1, 2, 3, 4] rfl)
    · intro H locs Z ls hl
      have Z : ec_Z D G A s (XW G h ad (x_c4 σ k v)) H locs := Z
      have hl : lv_has ls 5 [(4, .int (nI 12)), (3, .int (nI ((x_c3 σ k v).1))), (0, .ref h), (1, .int (nI k)), (2, .int (nI v))] := hl
      refine lv_iload F.1 F.2.1 dX0_change_51 (lv_at hl 0 rfl) ?_
      refine lv_bipush (v := (nI 12)) F.1 F.2.1 dX0_change_53 (by decide) ?_
      refine en_icmp_ge (tgt := 95) F (by omega) (by omega) dX0_change_55 (by decide) (fun c_3 => ?_) (fun c_3 => ?_)
      · skip
        refine lv_iload_n F.1 F.2.1 dX0_change_95 rfl (lv_at hl 1 rfl) ?_
        refine lv_aload_n F.1 F.2.1 dX0_change_96 rfl (lv_at hl 2 rfl) ?_
        refine ec_calli (Wf := XW G h ad) (σ := x_c4 σ k v) (rest := [.int (nI ((x_c3 σ k v).1))]) F Z hA (x_settle_m l D G h ad _ (x_c4 σ k v) hW4) (cwV 0 F.2.2.2.2 (lw_V q97 q99 qs6 q23 q100) rfl rfl rfl (by decide +kernel) ⟨Nat.le_of_ble_eq_true rfl, Nat.le_of_ble_eq_true rfl⟩) (ex_recv Z) rfl hl.1 rfl (Nat.le_of_ble_eq_true rfl) dX0_change_97 ⟨Nat.le_of_ble_eq_true rfl, Nat.le_of_ble_eq_true rfl⟩ (fun r σ1 H locs hp Z => ?_)
        obtain ⟨hp1, hp2⟩ := hp
        rw [hp1]
        rw [hp2] at Z
        refine en_iadd F dX0_change_100 ?_
        refine ret _ _ _ _ _ _ rfl Z ?_ dX0_change_101
        exact ⟨rfl, rfl⟩
      · exact absurd c_3 (by decide)
  have key28 : ∀ (H : Heap) (locs : List Loc), ec_Z D G A s (XW G h ad (x_c1 σ k v)) H locs → ∀ ls : Array Slot, lv_has ls 5 [(0, .ref h), (1, .int (nI k)), (2, .int (nI v))] → W p l e (ec_rm 2) s m args below meth c H locs 0 0 Q (F0 m 28 ls []) := by
    intro H locs Z ls hl
    refine lv_iconst (v := (nI 0)) F.1 F.2.1 dX0_change_28 (by decide) ?_
    refine lv_istore_n (lv' := [(3, .int (nI 0)), (0, .ref h), (1, .int (nI k)), (2, .int (nI v))]) F.1 F.2.1 dX0_change_29 rfl hl (by decide) rfl (fun ls hl => ?_)
    refine lv_aload_n F.1 F.2.1 dX0_change_30 rfl (lv_at hl 1 rfl) ?_
    refine ex_get F Z 1 (by decide) rfl rfl q34 dX0_change_31 ?_
    refine lv_iload_n F.1 F.2.1 dX0_change_34 rfl (lv_at hl 2 rfl) ?_
    refine en_bald F Z 2 (xvl (x_c1 σ k v)) rfl hk dX0_change_35 ?_
    refine lv_iload_n F.1 F.2.1 dX0_change_36 rfl (lv_at hl 3 rfl) ?_
    refine en_icmp_eq (tgt := 42) F (Nat.lt_of_lt_of_le (hW1.2.1 _ hk) (by decide)) (Nat.lt_of_lt_of_le hv (by decide)) dX0_change_37 (by decide) (fun c_4 => ?_) (fun c_4 => ?_)
    · skip
      have e9 : (if xvl (x_c1 σ k v) k = v then 0 else 1) = 0 := if_pos c_4
      exact key42 _ _ Z ls (by rw [e9]; exact lv_sub hl [0, 1, 2, 3] rfl)
    · skip
      refine lv_iconst (v := (nI 1)) F.1 F.2.1 dX0_change_40 (by decide) ?_
      refine lv_istore_n (lv' := [(3, .int (nI 1)), (0, .ref h), (1, .int (nI k)), (2, .int (nI v))]) F.1 F.2.1 dX0_change_41 rfl hl (by decide) rfl (fun ls hl => ?_)
      have e9 : (if xvl (x_c1 σ k v) k = v then 0 else 1) = 1 := if_neg c_4
      exact key42 _ _ Z ls (by rw [e9]; exact lv_sub hl [0, 1, 2, 3] rfl)
  refine lv_aload_n F.1 F.2.1 dX0_change_0 rfl (lv_at hl 0 rfl) ?_
  refine lv_iconst (v := (nI 0)) F.1 F.2.1 dX0_change_1 (by decide) ?_
  refine ex_putL (a := 0) F Z dX0_change_2 (fun H locs Z => ?_)
  have Z : ec_Z D G A s (XW G h ad (xsLC σ 0 (xcm σ))) H locs := Z
  refine lv_aload_n F.1 F.2.1 dX0_change_5 rfl (lv_at hl 0 rfl) ?_
  refine ex_get F Z 1 (by decide) rfl rfl q34 dX0_change_6 ?_
  refine lv_iload_n F.1 F.2.1 dX0_change_9 rfl (lv_at hl 1 rfl) ?_
  refine en_bald F Z 2 (xvl σ) rfl hk dX0_change_10 ?_
  refine lv_iconst (v := (nI 1)) F.1 F.2.1 dX0_change_11 (by decide) ?_
  refine en_iand2 F dX0_change_12 ?_
  refine en_if_ne (tgt := 28) F (Nat.lt_of_lt_of_le (Nat.mod_lt _ (by decide)) (by decide)) dX0_change_13 (by decide) (fun c_5 => ?_) (fun c_5 => ?_)
  · skip
    have e9 : x_c1 σ k v = xsLC σ 0 (xcm σ) := if_neg (fun g => c_5 g.1)
    exact key28 _ _ (by rw [e9]; exact Z) ls (lv_sub hl [0, 1, 2] rfl)
  · skip
    refine lv_iload_n F.1 F.2.1 dX0_change_16 rfl (lv_at hl 2 rfl) ?_
    refine lv_iconst (v := (nI 1)) F.1 F.2.1 dX0_change_17 (by decide) ?_
    refine en_iand2 F dX0_change_18 ?_
    refine lv_iconst (v := (nI 1)) F.1 F.2.1 dX0_change_19 (by decide) ?_
    refine en_icmp_ne (tgt := 28) F (Nat.lt_of_lt_of_le (Nat.mod_lt _ (by decide)) (by decide)) (by omega) dX0_change_20 (by decide) (fun c_6 => ?_) (fun c_6 => ?_)
    · skip
      have e9 : x_c1 σ k v = xsLC σ 0 (xcm σ) := if_neg (fun g => c_6 g.2)
      exact key28 _ _ (by rw [e9]; exact Z) ls (lv_sub hl [0, 1, 2] rfl)
    · skip
      refine lv_aload_n F.1 F.2.1 dX0_change_23 rfl (lv_at hl 0 rfl) ?_
      refine lv_iload_n F.1 F.2.1 dX0_change_24 rfl (lv_at hl 1 rfl) ?_
      refine ec_callv (Wf := XW G h ad) (σ := xsLC σ 0 (xcm σ)) (rest := []) F Z hA (x_sample_m l D G h ad _ (xsLC σ 0 (xcm σ)) k hk (xwf_LC hW (by decide) hW.2.2.2.2.2.2.2.2.2.2)) (cwV 1 F.2.2.2.2 (lw_V q129 q131 qs11 q23 q132) rfl rfl rfl (by decide +kernel) ⟨Nat.le_of_ble_eq_true rfl, Nat.le_of_ble_eq_true rfl⟩) (ex_recv Z) rfl hl.1 rfl (Nat.le_of_ble_eq_true rfl) dX0_change_25 ⟨Nat.le_of_ble_eq_true rfl, Nat.le_of_ble_eq_true rfl⟩ (fun σ1 H locs hp Z => ?_)
      have hp : σ1 = x_sample (xsLC σ 0 (xcm σ)) k := hp
      rw [hp] at Z
      have e9 : x_c1 σ k v = x_sample (xsLC σ 0 (xcm σ)) k := if_pos ⟨c_5, c_6⟩
      exact key28 _ _ (by rw [e9]; exact Z) ls (lv_sub hl [0, 1, 2] rfl)
end
section
/-! EventCircuit: public methods -/
set_option maxRecDepth 100000
set_option maxHeartbeats 4000000 in
theorem x_leads_m (l : Launch) (D : va_G) (G : ec_G) (h : Nat) (ad : Nat → Nat) (sz : Nat) (σ : XS) (k a : Nat) (hk : k < 12) (ha : a < 12) (hW : XWF σ) : ec_Mi l yX0_leadsTo cX0_leadsTo 4 (some .boolean) 1 D G (XW G h ad) h [.int (nI k), .int (nI a)] σ sz (fun r σ' => r = nI (x_leads σ k a).toNat ∧ σ' = σ) := by
  refine ec_walk_i RX0 (by decide) rfl (Nat.le_of_ble_eq_true rfl) ?_
  intro p e s m below meth c A args Q F hA ret Z ls hl
  have hl : lv_has ls 4 [(0, .ref h), (1, .int (nI k)), (2, .int (nI a))] := hl
  refine lv_iload_n F.1 F.2.1 dX0_leadsTo_0 rfl (lv_at hl 1 rfl) ?_
  refine lv_iload_n F.1 F.2.1 dX0_leadsTo_1 rfl (lv_at hl 2 rfl) ?_
  refine en_icmp_ne (tgt := 7) F (Nat.lt_of_lt_of_le hk (by decide)) (Nat.lt_of_lt_of_le ha (by decide)) dX0_leadsTo_2 (by decide) (fun c_1 => ?_) (fun c_1 => ?_)
  · skip
    refine lv_aload_n F.1 F.2.1 dX0_leadsTo_7 rfl (lv_at hl 0 rfl) ?_
    refine lv_iload_n F.1 F.2.1 dX0_leadsTo_8 rfl (lv_at hl 1 rfl) ?_
    refine ec_calli (Wf := XW G h ad) (σ := σ) (rest := []) F Z hA (x_hang_m l D G h ad _ σ k hk hW) (cwV 1 F.2.2.2.2 (lw_V q85 q87 qs3 q23 q88) rfl rfl rfl (by decide +kernel) ⟨Nat.le_of_ble_eq_true rfl, Nat.le_of_ble_eq_true rfl⟩) (ex_recv Z) rfl hl.1 rfl (Nat.le_of_ble_eq_true rfl) dX0_leadsTo_9 ⟨Nat.le_of_ble_eq_true rfl, Nat.le_of_ble_eq_true rfl⟩ (fun r σ1 H locs hp Z => ?_)
    obtain ⟨hp1, hp2⟩ := hp
    rw [hp1]
    rw [hp2] at Z
    refine lv_istore_n (lv' := [(3, .int (nI (x_hang (xli σ) k))), (0, .ref h), (1, .int (nI k)), (2, .int (nI a))]) F.1 F.2.1 dX0_leadsTo_12 rfl hl (by decide) rfl (fun ls hl => ?_)
    refine lv_iload_n F.1 F.2.1 dX0_leadsTo_13 rfl (lv_at hl 0 rfl) ?_
    refine lv_iload_n F.1 F.2.1 dX0_leadsTo_14 rfl (lv_at hl 3 rfl) ?_
    refine en_ishr F (Nat.lt_of_lt_of_le (x_hang_lt hW.2.2.2.2.2.2.1 hk) (by decide)) (Nat.lt_of_lt_of_le ha (by decide)) dX0_leadsTo_15 ?_
    refine lv_iconst (v := (nI 1)) F.1 F.2.1 dX0_leadsTo_16 (by decide) ?_
    refine en_iand1 F dX0_leadsTo_17 ?_
    refine en_ifb_eq (tgt := 25) F dX0_leadsTo_18 (by decide) (fun c_2 => ?_) (fun c_2 => ?_)
    · skip
      refine lv_iconst (v := (nI 0)) F.1 F.2.1 dX0_leadsTo_25 (by decide) ?_
      refine ret _ _ _ _ _ _ rfl Z ?_ dX0_leadsTo_26
      exact ⟨by simp [x_leads, c_1, c_2], rfl⟩
    · skip
      refine lv_iconst (v := (nI 1)) F.1 F.2.1 dX0_leadsTo_21 (by decide) ?_
      refine lv_goto (tgt := 26) F.1 F.2.1 dX0_leadsTo_22 (by decide) ?_
      refine ret _ _ _ _ _ _ rfl Z ?_ dX0_leadsTo_26
      exact ⟨by simp [x_leads, c_1, c_2], rfl⟩
  · skip
    refine lv_iconst (v := (nI 1)) F.1 F.2.1 dX0_leadsTo_5 (by decide) ?_
    refine ret _ _ _ _ _ _ rfl Z ?_ dX0_leadsTo_6
    exact ⟨by simp [x_leads, c_1], rfl⟩
set_option maxHeartbeats 4000000 in
theorem x_wire_m (l : Launch) (D : va_G) (G : ec_G) (h : Nat) (ad : Nat → Nat) (sz : Nat) (σ : XS) (k o a b : Nat) (hk : k < 12) (ho : o < 9) (ha : a < 12) (hb : b < 12) (hW : XWF σ) (hac : ec_ck (xso σ) (xck σ) k 12 0 = false → x_leads σ k a = false → x_leads σ k b = false → ∃ rk, ec_Ac (ec_up (xso σ) k 1) (ec_up (xsa σ) k a) (ec_up (xsb σ) k b) rk) : ec_Mi l yX0_wire cX0_wire 5 (some .int) 3 D G (XW G h ad) h [.int (nI k), .int (nI o), .int (nI a), .int (nI b)] σ sz (fun r σ' => r = (x_wire σ k o a b).1 ∧ σ' = (x_wire σ k o a b).2) := by
  refine ec_walk_i RX0 (by decide) rfl (Nat.le_of_ble_eq_true rfl) ?_
  intro p e s m below meth c A args Q F hA ret Z ls hl
  have hl : lv_has ls 5 [(0, .ref h), (1, .int (nI k)), (2, .int (nI o)), (3, .int (nI a)), (4, .int (nI b))] := hl
  refine lv_iload_n F.1 F.2.1 dX0_wire_0 rfl (lv_at hl 2 rfl) ?_
  refine lv_if_lt (tgt := 35) F.1 F.2.1 dX0_wire_1 (by decide) (fun c_1 => ?_) (fun c_1 => ?_)
  · exact absurd c_1 (nI_pos (by omega))
  · skip
    refine lv_iload_n F.1 F.2.1 dX0_wire_4 rfl (lv_at hl 2 rfl) ?_
    refine lv_bipush (v := (nI 8)) F.1 F.2.1 dX0_wire_5 (by decide) ?_
    refine en_icmp_gt (tgt := 35) F (Nat.lt_of_lt_of_le ho (by decide)) (by omega) dX0_wire_7 (by decide) (fun c_2 => ?_) (fun c_2 => ?_)
    · exact absurd c_2 (by omega)
    · skip
      refine lv_aload_n F.1 F.2.1 dX0_wire_10 rfl (lv_at hl 0 rfl) ?_
      refine lv_iload_n F.1 F.2.1 dX0_wire_11 rfl (lv_at hl 1 rfl) ?_
      refine ec_calli (Wf := XW G h ad) (σ := σ) (rest := []) F Z hA (x_sig1 l D G h ad _ (σ) (nI k) (ec_sg_nI hk)) (cwV 1 F.2.2.2.2 (lw_V q73 q75 qs0 q23 q76) rfl rfl rfl (by decide +kernel) ⟨Nat.le_of_ble_eq_true rfl, Nat.le_of_ble_eq_true rfl⟩) (ex_recv Z) rfl hl.1 rfl (Nat.le_of_ble_eq_true rfl) dX0_wire_12 ⟨Nat.le_of_ble_eq_true rfl, Nat.le_of_ble_eq_true rfl⟩ (fun r σ1 H locs hp Z => ?_)
      obtain ⟨hp1, hp2⟩ := hp
      rw [hp1]
      rw [hp2] at Z
      refine en_if_eq (tgt := 35) F (by omega) dX0_wire_15 (by decide) (fun c_3 => ?_) (fun c_3 => ?_)
      · exact absurd c_3 (by decide)
      · skip
        refine lv_aload_n F.1 F.2.1 dX0_wire_18 rfl (lv_at hl 0 rfl) ?_
        refine lv_iload_n F.1 F.2.1 dX0_wire_19 rfl (lv_at hl 3 rfl) ?_
        refine ec_calli (Wf := XW G h ad) (σ := σ) (rest := []) F Z hA (x_sig1 l D G h ad _ (σ) (nI a) (ec_sg_nI ha)) (cwV 1 F.2.2.2.2 (lw_V q73 q75 qs0 q23 q76) rfl rfl rfl (by decide +kernel) ⟨Nat.le_of_ble_eq_true rfl, Nat.le_of_ble_eq_true rfl⟩) (ex_recv Z) rfl hl.1 rfl (Nat.le_of_ble_eq_true rfl) dX0_wire_20 ⟨Nat.le_of_ble_eq_true rfl, Nat.le_of_ble_eq_true rfl⟩ (fun r σ1 H locs hp Z => ?_)
        obtain ⟨hp1, hp2⟩ := hp
        rw [hp1]
        rw [hp2] at Z
        refine en_if_eq (tgt := 35) F (by omega) dX0_wire_23 (by decide) (fun c_4 => ?_) (fun c_4 => ?_)
        · exact absurd c_4 (by decide)
        · skip
          refine lv_aload_n F.1 F.2.1 dX0_wire_26 rfl (lv_at hl 0 rfl) ?_
          refine lv_iload F.1 F.2.1 dX0_wire_27 (lv_at hl 4 rfl) ?_
          refine ec_calli (Wf := XW G h ad) (σ := σ) (rest := []) F Z hA (x_sig1 l D G h ad _ (σ) (nI b) (ec_sg_nI hb)) (cwV 1 F.2.2.2.2 (lw_V q73 q75 qs0 q23 q76) rfl rfl rfl (by decide +kernel) ⟨Nat.le_of_ble_eq_true rfl, Nat.le_of_ble_eq_true rfl⟩) (ex_recv Z) rfl hl.1 rfl (Nat.le_of_ble_eq_true rfl) dX0_wire_29 ⟨Nat.le_of_ble_eq_true rfl, Nat.le_of_ble_eq_true rfl⟩ (fun r σ1 H locs hp Z => ?_)
          obtain ⟨hp1, hp2⟩ := hp
          rw [hp1]
          rw [hp2] at Z
          refine en_if_ne (tgt := 37) F (by omega) dX0_wire_32 (by decide) (fun c_5 => ?_) (fun c_5 => ?_)
          · skip
            refine lv_aload_n F.1 F.2.1 dX0_wire_37 rfl (lv_at hl 0 rfl) ?_
            refine lv_iload_n F.1 F.2.1 dX0_wire_38 rfl (lv_at hl 1 rfl) ?_
            refine ec_calli (Wf := XW G h ad) (σ := σ) (rest := []) F Z hA (x_clock_m l D G h ad _ σ k hk hW) (cwV 1 F.2.2.2.2 (lw_V q77 q79 qs1 q23 q80) rfl rfl rfl (by decide +kernel) ⟨Nat.le_of_ble_eq_true rfl, Nat.le_of_ble_eq_true rfl⟩) (ex_recv Z) rfl hl.1 rfl (Nat.le_of_ble_eq_true rfl) dX0_wire_39 ⟨Nat.le_of_ble_eq_true rfl, Nat.le_of_ble_eq_true rfl⟩ (fun r σ1 H locs hp Z => ?_)
            obtain ⟨hp1, hp2⟩ := hp
            rw [hp1]
            rw [hp2] at Z
            refine en_ifb_eq (tgt := 48) F dX0_wire_42 (by decide) (fun c_6 => ?_) (fun c_6 => ?_)
            · skip
              refine lv_aload_n F.1 F.2.1 dX0_wire_48 rfl (lv_at hl 0 rfl) ?_
              refine lv_iload_n F.1 F.2.1 dX0_wire_49 rfl (lv_at hl 1 rfl) ?_
              refine lv_iload_n F.1 F.2.1 dX0_wire_50 rfl (lv_at hl 3 rfl) ?_
              refine ec_calli (Wf := XW G h ad) (σ := σ) (rest := []) F Z hA (x_leads_m l D G h ad _ σ k a hk ha hW) (cwV 2 F.2.2.2.2 (lw_V q81 q83 qs2 q23 q84) rfl rfl rfl (by decide +kernel) ⟨Nat.le_of_ble_eq_true rfl, Nat.le_of_ble_eq_true rfl⟩) (ex_recv Z) rfl hl.1 rfl (Nat.le_of_ble_eq_true rfl) dX0_wire_51 ⟨Nat.le_of_ble_eq_true rfl, Nat.le_of_ble_eq_true rfl⟩ (fun r σ1 H locs hp Z => ?_)
              obtain ⟨hp1, hp2⟩ := hp
              rw [hp1]
              rw [hp2] at Z
              refine en_ifb_ne (tgt := 67) F dX0_wire_54 (by decide) (fun c_7 => ?_) (fun c_7 => ?_)
              · skip
                refine lv_bipush (v := (-2)) F.1 F.2.1 dX0_wire_67 (by decide) ?_
                refine ret _ _ _ _ _ _ rfl Z ?_ dX0_wire_69
                exact ⟨by simp [x_wire, c_6, c_7], by simp [x_wire, c_6, c_7]⟩
              · skip
                refine lv_aload_n F.1 F.2.1 dX0_wire_57 rfl (lv_at hl 0 rfl) ?_
                refine lv_iload_n F.1 F.2.1 dX0_wire_58 rfl (lv_at hl 1 rfl) ?_
                refine lv_iload F.1 F.2.1 dX0_wire_59 (lv_at hl 4 rfl) ?_
                refine ec_calli (Wf := XW G h ad) (σ := σ) (rest := []) F Z hA (x_leads_m l D G h ad _ σ k b hk hb hW) (cwV 2 F.2.2.2.2 (lw_V q81 q83 qs2 q23 q84) rfl rfl rfl (by decide +kernel) ⟨Nat.le_of_ble_eq_true rfl, Nat.le_of_ble_eq_true rfl⟩) (ex_recv Z) rfl hl.1 rfl (Nat.le_of_ble_eq_true rfl) dX0_wire_61 ⟨Nat.le_of_ble_eq_true rfl, Nat.le_of_ble_eq_true rfl⟩ (fun r σ1 H locs hp Z => ?_)
                obtain ⟨hp1, hp2⟩ := hp
                rw [hp1]
                rw [hp2] at Z
                refine en_ifb_eq (tgt := 70) F dX0_wire_64 (by decide) (fun c_8 => ?_) (fun c_8 => ?_)
                · skip
                  refine lv_aload_n F.1 F.2.1 dX0_wire_70 rfl (lv_at hl 0 rfl) ?_
                  refine lv_iload_n F.1 F.2.1 dX0_wire_71 rfl (lv_at hl 1 rfl) ?_
                  refine lv_iconst (v := (nI 1)) F.1 F.2.1 dX0_wire_72 (by decide) ?_
                  refine lv_iload_n F.1 F.2.1 dX0_wire_73 rfl (lv_at hl 2 rfl) ?_
                  refine lv_iload_n F.1 F.2.1 dX0_wire_74 rfl (lv_at hl 3 rfl) ?_
                  refine lv_iload F.1 F.2.1 dX0_wire_75 (lv_at hl 4 rfl) ?_
                  obtain ⟨rk, hrk⟩ := hac c_6 c_7 c_8
                  refine ec_callv (Wf := XW G h ad) (σ := σ) (rest := []) F Z hA (x_define_m l D G h ad _ σ k 1 o a b hk (by decide) ho ha hb hW rk hrk) (cwV 5 F.2.2.2.2 (lw_V q89 q91 qs4 q23 q92) rfl rfl rfl (by decide +kernel) ⟨Nat.le_of_ble_eq_true rfl, Nat.le_of_ble_eq_true rfl⟩) (ex_recv Z) rfl hl.1 rfl (Nat.le_of_ble_eq_true rfl) dX0_wire_77 ⟨Nat.le_of_ble_eq_true rfl, Nat.le_of_ble_eq_true rfl⟩ (fun σ1 H locs hp Z => ?_)
                  have hp : σ1 = x_define σ k 1 o a b := hp
                  rw [hp] at Z
                  refine lv_aload_n F.1 F.2.1 dX0_wire_80 rfl (lv_at hl 0 rfl) ?_
                  refine ex_get F Z 1 (by decide) rfl rfl q34 dX0_wire_81 ?_
                  refine lv_iload_n F.1 F.2.1 dX0_wire_84 rfl (lv_at hl 1 rfl) ?_
                  refine en_bald F Z 2 (xvl (x_define σ k 1 o a b)) rfl hk dX0_wire_85 ?_
                  refine ret _ _ _ _ _ _ rfl Z ?_ dX0_wire_86
                  exact ⟨by simp [x_wire, c_6, c_7, c_8], by simp [x_wire, c_6, c_7, c_8]⟩
                · skip
                  refine lv_bipush (v := (-2)) F.1 F.2.1 dX0_wire_67 (by decide) ?_
                  refine ret _ _ _ _ _ _ rfl Z ?_ dX0_wire_69
                  exact ⟨by simp [x_wire, c_6, c_7, c_8], by simp [x_wire, c_6, c_7, c_8]⟩
            · skip
              refine lv_bipush (v := (-3)) F.1 F.2.1 dX0_wire_45 (by decide) ?_
              refine ret _ _ _ _ _ _ rfl Z ?_ dX0_wire_47
              exact ⟨by simp [x_wire, c_6], by simp [x_wire, c_6]⟩
          · exact absurd c_5 (by decide)
set_option maxHeartbeats 4000000 in
theorem x_wire_b (l : Launch) (D : va_G) (G : ec_G) (h : Nat) (ad : Nat → Nat) (sz : Nat) (σ : XS) (s1 o1 a1 b1 : Int32) (hbad : ¬ (ec_ov o1 ∧ ec_sg s1 ∧ ec_sg a1 ∧ ec_sg b1)) : ec_Mi l yX0_wire cX0_wire 5 (some .int) 3 D G (XW G h ad) h [.int s1, .int o1, .int a1, .int b1] σ sz (fun r σ' => r = -1 ∧ σ' = σ) := by
  refine ec_walk_i RX0 (by decide) rfl (Nat.le_of_ble_eq_true rfl) ?_
  intro p e s m below meth c A args Q F hA ret Z ls hl
  have hl : lv_has ls 5 [(0, .ref h), (1, .int s1), (2, .int o1), (3, .int a1), (4, .int b1)] := hl
  refine lv_iload_n F.1 F.2.1 dX0_wire_0 rfl (lv_at hl 2 rfl) ?_
  refine lv_if_lt (tgt := 35) F.1 F.2.1 dX0_wire_1 (by decide) (fun c_1 => ?_) (fun c_1 => ?_)
  · skip
    refine lv_iconst (v := (-1)) F.1 F.2.1 dX0_wire_35 (by decide) ?_
    refine ret _ _ _ _ _ _ rfl Z ?_ dX0_wire_36
    exact ⟨rfl, rfl⟩
  · skip
    refine lv_iload_n F.1 F.2.1 dX0_wire_4 rfl (lv_at hl 2 rfl) ?_
    refine lv_bipush (v := (nI 8)) F.1 F.2.1 dX0_wire_5 (by decide) ?_
    refine lv_icmp_gt (tgt := 35) F.1 F.2.1 dX0_wire_7 (by decide) (fun c_2 => ?_) (fun c_2 => ?_)
    · skip
      refine lv_iconst (v := (-1)) F.1 F.2.1 dX0_wire_35 (by decide) ?_
      refine ret _ _ _ _ _ _ rfl Z ?_ dX0_wire_36
      exact ⟨rfl, rfl⟩
    · skip
      refine lv_aload_n F.1 F.2.1 dX0_wire_10 rfl (lv_at hl 0 rfl) ?_
      refine lv_iload_n F.1 F.2.1 dX0_wire_11 rfl (lv_at hl 1 rfl) ?_
      by_cases hs_12 : ec_sg s1
      · skip
        refine ec_calli (Wf := XW G h ad) (σ := σ) (rest := []) F Z hA (x_sig1 l D G h ad _ σ s1 hs_12) (cwV 1 F.2.2.2.2 (lw_V q73 q75 qs0 q23 q76) rfl rfl rfl (by decide +kernel) ⟨Nat.le_of_ble_eq_true rfl, Nat.le_of_ble_eq_true rfl⟩) (ex_recv Z) rfl hl.1 rfl (Nat.le_of_ble_eq_true rfl) dX0_wire_12 ⟨Nat.le_of_ble_eq_true rfl, Nat.le_of_ble_eq_true rfl⟩ (fun r σ1 H locs hp Z => ?_)
        obtain ⟨hp1, hp2⟩ := hp
        rw [hp1]
        rw [hp2] at Z
        refine en_if_eq (tgt := 35) F (by omega) dX0_wire_15 (by decide) (fun c_3 => ?_) (fun c_3 => ?_)
        · exact absurd c_3 (by decide)
        · skip
          refine lv_aload_n F.1 F.2.1 dX0_wire_18 rfl (lv_at hl 0 rfl) ?_
          refine lv_iload_n F.1 F.2.1 dX0_wire_19 rfl (lv_at hl 3 rfl) ?_
          by_cases hs_20 : ec_sg a1
          · skip
            refine ec_calli (Wf := XW G h ad) (σ := σ) (rest := []) F Z hA (x_sig1 l D G h ad _ σ a1 hs_20) (cwV 1 F.2.2.2.2 (lw_V q73 q75 qs0 q23 q76) rfl rfl rfl (by decide +kernel) ⟨Nat.le_of_ble_eq_true rfl, Nat.le_of_ble_eq_true rfl⟩) (ex_recv Z) rfl hl.1 rfl (Nat.le_of_ble_eq_true rfl) dX0_wire_20 ⟨Nat.le_of_ble_eq_true rfl, Nat.le_of_ble_eq_true rfl⟩ (fun r σ1 H locs hp Z => ?_)
            obtain ⟨hp1, hp2⟩ := hp
            rw [hp1]
            rw [hp2] at Z
            refine en_if_eq (tgt := 35) F (by omega) dX0_wire_23 (by decide) (fun c_4 => ?_) (fun c_4 => ?_)
            · exact absurd c_4 (by decide)
            · skip
              refine lv_aload_n F.1 F.2.1 dX0_wire_26 rfl (lv_at hl 0 rfl) ?_
              refine lv_iload F.1 F.2.1 dX0_wire_27 (lv_at hl 4 rfl) ?_
              by_cases hs_29 : ec_sg b1
              · skip
                refine ec_calli (Wf := XW G h ad) (σ := σ) (rest := []) F Z hA (x_sig1 l D G h ad _ σ b1 hs_29) (cwV 1 F.2.2.2.2 (lw_V q73 q75 qs0 q23 q76) rfl rfl rfl (by decide +kernel) ⟨Nat.le_of_ble_eq_true rfl, Nat.le_of_ble_eq_true rfl⟩) (ex_recv Z) rfl hl.1 rfl (Nat.le_of_ble_eq_true rfl) dX0_wire_29 ⟨Nat.le_of_ble_eq_true rfl, Nat.le_of_ble_eq_true rfl⟩ (fun r σ1 H locs hp Z => ?_)
                obtain ⟨hp1, hp2⟩ := hp
                rw [hp1]
                rw [hp2] at Z
                exact absurd ⟨⟨c_1, c_2⟩, hs_12, hs_20, hs_29⟩ hbad
              · skip
                refine ec_calli (Wf := XW G h ad) (σ := σ) (rest := []) F Z hA (x_sig0 l D G h ad _ σ b1 hs_29) (cwV 1 F.2.2.2.2 (lw_V q73 q75 qs0 q23 q76) rfl rfl rfl (by decide +kernel) ⟨Nat.le_of_ble_eq_true rfl, Nat.le_of_ble_eq_true rfl⟩) (ex_recv Z) rfl hl.1 rfl (Nat.le_of_ble_eq_true rfl) dX0_wire_29 ⟨Nat.le_of_ble_eq_true rfl, Nat.le_of_ble_eq_true rfl⟩ (fun r σ1 H locs hp Z => ?_)
                obtain ⟨hp1, hp2⟩ := hp
                rw [hp1]
                rw [hp2] at Z
                refine en_if_ne (tgt := 37) F (by omega) dX0_wire_32 (by decide) (fun c_5 => ?_) (fun c_5 => ?_)
                · exact absurd c_5 (by decide)
                · skip
                  refine lv_iconst (v := (-1)) F.1 F.2.1 dX0_wire_35 (by decide) ?_
                  refine ret _ _ _ _ _ _ rfl Z ?_ dX0_wire_36
                  exact ⟨rfl, rfl⟩
          · skip
            refine ec_calli (Wf := XW G h ad) (σ := σ) (rest := []) F Z hA (x_sig0 l D G h ad _ σ a1 hs_20) (cwV 1 F.2.2.2.2 (lw_V q73 q75 qs0 q23 q76) rfl rfl rfl (by decide +kernel) ⟨Nat.le_of_ble_eq_true rfl, Nat.le_of_ble_eq_true rfl⟩) (ex_recv Z) rfl hl.1 rfl (Nat.le_of_ble_eq_true rfl) dX0_wire_20 ⟨Nat.le_of_ble_eq_true rfl, Nat.le_of_ble_eq_true rfl⟩ (fun r σ1 H locs hp Z => ?_)
            obtain ⟨hp1, hp2⟩ := hp
            rw [hp1]
            rw [hp2] at Z
            refine en_if_eq (tgt := 35) F (by omega) dX0_wire_23 (by decide) (fun c_6 => ?_) (fun c_6 => ?_)
            · skip
              refine lv_iconst (v := (-1)) F.1 F.2.1 dX0_wire_35 (by decide) ?_
              refine ret _ _ _ _ _ _ rfl Z ?_ dX0_wire_36
              exact ⟨rfl, rfl⟩
            · exact absurd c_6 (by decide)
      · skip
        refine ec_calli (Wf := XW G h ad) (σ := σ) (rest := []) F Z hA (x_sig0 l D G h ad _ σ s1 hs_12) (cwV 1 F.2.2.2.2 (lw_V q73 q75 qs0 q23 q76) rfl rfl rfl (by decide +kernel) ⟨Nat.le_of_ble_eq_true rfl, Nat.le_of_ble_eq_true rfl⟩) (ex_recv Z) rfl hl.1 rfl (Nat.le_of_ble_eq_true rfl) dX0_wire_12 ⟨Nat.le_of_ble_eq_true rfl, Nat.le_of_ble_eq_true rfl⟩ (fun r σ1 H locs hp Z => ?_)
        obtain ⟨hp1, hp2⟩ := hp
        rw [hp1]
        rw [hp2] at Z
        refine en_if_eq (tgt := 35) F (by omega) dX0_wire_15 (by decide) (fun c_7 => ?_) (fun c_7 => ?_)
        · skip
          refine lv_iconst (v := (-1)) F.1 F.2.1 dX0_wire_35 (by decide) ?_
          refine ret _ _ _ _ _ _ rfl Z ?_ dX0_wire_36
          exact ⟨rfl, rfl⟩
        · exact absurd c_7 (by decide)
set_option maxHeartbeats 4000000 in
theorem x_register_m (l : Launch) (D : va_G) (G : ec_G) (h : Nat) (ad : Nat → Nat) (sz : Nat) (σ : XS) (k o a b : Nat) (hk : k < 12) (ho : o < 9) (ha : a < 12) (hb : b < 144) (hW : XWF σ) (rk : ec_A) (hac : ec_Ac (ec_up (xso σ) k 2) (ec_up (xsa σ) k a) (ec_up (xsb σ) k (b % 12)) rk) : ec_Mi l yX0_register cX0_register 6 (some .int) 3 D G (XW G h ad) h [.int (nI k), .int (nI o), .int (nI a), .int (nI b)] σ sz (fun r σ' => r = (x_register σ k o a b).1 ∧ σ' = (x_register σ k o a b).2) := by
  refine ec_walk_i RX0 (by decide) rfl (Nat.le_of_ble_eq_true rfl) ?_
  intro p e s m below meth c A args Q F hA ret Z ls hl
  have hl : lv_has ls 6 [(0, .ref h), (1, .int (nI k)), (2, .int (nI o)), (3, .int (nI a)), (4, .int (nI b))] := hl
  refine lv_iload_n F.1 F.2.1 dX0_register_0 rfl (lv_at hl 2 rfl) ?_
  refine lv_if_lt (tgt := 39) F.1 F.2.1 dX0_register_1 (by decide) (fun c_1 => ?_) (fun c_1 => ?_)
  · exact absurd c_1 (nI_pos (by omega))
  · skip
    refine lv_iload_n F.1 F.2.1 dX0_register_4 rfl (lv_at hl 2 rfl) ?_
    refine lv_bipush (v := (nI 8)) F.1 F.2.1 dX0_register_5 (by decide) ?_
    refine en_icmp_gt (tgt := 39) F (Nat.lt_of_lt_of_le ho (by decide)) (by omega) dX0_register_7 (by decide) (fun c_2 => ?_) (fun c_2 => ?_)
    · exact absurd c_2 (by omega)
    · skip
      refine lv_aload_n F.1 F.2.1 dX0_register_10 rfl (lv_at hl 0 rfl) ?_
      refine lv_iload_n F.1 F.2.1 dX0_register_11 rfl (lv_at hl 1 rfl) ?_
      refine ec_calli (Wf := XW G h ad) (σ := σ) (rest := []) F Z hA (x_sig1 l D G h ad _ (σ) (nI k) (ec_sg_nI hk)) (cwV 1 F.2.2.2.2 (lw_V q73 q75 qs0 q23 q76) rfl rfl rfl (by decide +kernel) ⟨Nat.le_of_ble_eq_true rfl, Nat.le_of_ble_eq_true rfl⟩) (ex_recv Z) rfl hl.1 rfl (Nat.le_of_ble_eq_true rfl) dX0_register_12 ⟨Nat.le_of_ble_eq_true rfl, Nat.le_of_ble_eq_true rfl⟩ (fun r σ1 H locs hp Z => ?_)
      obtain ⟨hp1, hp2⟩ := hp
      rw [hp1]
      rw [hp2] at Z
      refine en_if_eq (tgt := 39) F (by omega) dX0_register_15 (by decide) (fun c_3 => ?_) (fun c_3 => ?_)
      · exact absurd c_3 (by decide)
      · skip
        refine lv_aload_n F.1 F.2.1 dX0_register_18 rfl (lv_at hl 0 rfl) ?_
        refine lv_iload_n F.1 F.2.1 dX0_register_19 rfl (lv_at hl 3 rfl) ?_
        refine ec_calli (Wf := XW G h ad) (σ := σ) (rest := []) F Z hA (x_sig1 l D G h ad _ (σ) (nI a) (ec_sg_nI ha)) (cwV 1 F.2.2.2.2 (lw_V q73 q75 qs0 q23 q76) rfl rfl rfl (by decide +kernel) ⟨Nat.le_of_ble_eq_true rfl, Nat.le_of_ble_eq_true rfl⟩) (ex_recv Z) rfl hl.1 rfl (Nat.le_of_ble_eq_true rfl) dX0_register_20 ⟨Nat.le_of_ble_eq_true rfl, Nat.le_of_ble_eq_true rfl⟩ (fun r σ1 H locs hp Z => ?_)
        obtain ⟨hp1, hp2⟩ := hp
        rw [hp1]
        rw [hp2] at Z
        refine en_if_eq (tgt := 39) F (by omega) dX0_register_23 (by decide) (fun c_4 => ?_) (fun c_4 => ?_)
        · exact absurd c_4 (by decide)
        · skip
          refine lv_iload F.1 F.2.1 dX0_register_26 (lv_at hl 4 rfl) ?_
          refine lv_if_lt (tgt := 39) F.1 F.2.1 dX0_register_28 (by decide) (fun c_5 => ?_) (fun c_5 => ?_)
          · exact absurd c_5 (nI_pos (by omega))
          · skip
            refine lv_iload F.1 F.2.1 dX0_register_31 (lv_at hl 4 rfl) ?_
            refine lv_sipush (v := (nI 143)) F.1 F.2.1 dX0_register_33 (by decide) ?_
            refine en_icmp_le (tgt := 41) F (Nat.lt_of_lt_of_le hb (by decide)) (by omega) dX0_register_36 (by decide) (fun c_6 => ?_) (fun c_6 => ?_)
            · skip
              refine lv_iload F.1 F.2.1 dX0_register_41 (lv_at hl 4 rfl) ?_
              refine lv_bipush (v := (nI 12)) F.1 F.2.1 dX0_register_43 (by decide) ?_
              refine en_idiv F (Nat.lt_of_lt_of_le hb (by decide)) (by decide) (by decide) dX0_register_45 ?_
              refine lv_istore (lv' := [(5, .int (nI (b / 12))), (0, .ref h), (1, .int (nI k)), (2, .int (nI o)), (3, .int (nI a)), (4, .int (nI b))]) F.1 F.2.1 dX0_register_46 hl (by decide) rfl (fun ls hl => ?_)
              refine lv_aload_n F.1 F.2.1 dX0_register_48 rfl (lv_at hl 1 rfl) ?_
              refine ex_get F Z 0 (by decide) rfl rfl q33 dX0_register_49 ?_
              refine lv_iload F.1 F.2.1 dX0_register_52 (lv_at hl 0 rfl) ?_
              refine en_bald F Z 1 (xso σ) rfl (by omega) dX0_register_54 ?_
              refine en_if_ne (tgt := 72) F (Nat.lt_of_lt_of_le (hW.1 _ (by omega)) (by decide)) dX0_register_55 (by decide) (fun c_7 => ?_) (fun c_7 => ?_)
              · skip
                refine lv_bipush (v := (-3)) F.1 F.2.1 dX0_register_72 (by decide) ?_
                refine ret _ _ _ _ _ _ rfl Z ?_ dX0_register_74
                exact ⟨by simp [x_register, c_7], by simp [x_register, c_7]⟩
              · skip
                refine lv_iload F.1 F.2.1 dX0_register_58 (lv_at hl 0 rfl) ?_
                refine lv_iload_n F.1 F.2.1 dX0_register_60 rfl (lv_at hl 2 rfl) ?_
                refine en_icmp_eq (tgt := 72) F (by omega) (Nat.lt_of_lt_of_le hk (by decide)) dX0_register_61 (by decide) (fun c_8 => ?_) (fun c_8 => ?_)
                · skip
                  refine lv_bipush (v := (-3)) F.1 F.2.1 dX0_register_72 (by decide) ?_
                  refine ret _ _ _ _ _ _ rfl Z ?_ dX0_register_74
                  exact ⟨by simp [x_register, c_7, c_8], by simp [x_register, c_7, c_8]⟩
                · skip
                  refine lv_aload_n F.1 F.2.1 dX0_register_64 rfl (lv_at hl 1 rfl) ?_
                  refine lv_iload_n F.1 F.2.1 dX0_register_65 rfl (lv_at hl 2 rfl) ?_
                  refine ec_calli (Wf := XW G h ad) (σ := σ) (rest := []) F Z hA (x_clock_m l D G h ad _ σ k hk hW) (cwV 1 F.2.2.2.2 (lw_V q77 q79 qs1 q23 q80) rfl rfl rfl (by decide +kernel) ⟨Nat.le_of_ble_eq_true rfl, Nat.le_of_ble_eq_true rfl⟩) (ex_recv Z) rfl hl.1 rfl (Nat.le_of_ble_eq_true rfl) dX0_register_66 ⟨Nat.le_of_ble_eq_true rfl, Nat.le_of_ble_eq_true rfl⟩ (fun r σ1 H locs hp Z => ?_)
                  obtain ⟨hp1, hp2⟩ := hp
                  rw [hp1]
                  rw [hp2] at Z
                  refine en_ifb_eq (tgt := 75) F dX0_register_69 (by decide) (fun c_9 => ?_) (fun c_9 => ?_)
                  · skip
                    refine lv_aload_n F.1 F.2.1 dX0_register_75 rfl (lv_at hl 1 rfl) ?_
                    refine ex_get F Z 5 (by decide) rfl rfl q38 dX0_register_76 ?_
                    refine lv_iload_n F.1 F.2.1 dX0_register_79 rfl (lv_at hl 2 rfl) ?_
                    refine lv_iload F.1 F.2.1 dX0_register_80 (lv_at hl 0 rfl) ?_
                    refine en_i2b F (by omega) dX0_register_82 ?_
                    refine en_bast (ws' := XW G h ad (xsCk σ (ec_up (xck σ) k (b / 12)))) F Z 6 (xck σ) rfl hk (by omega) rfl dX0_register_83 (fun H locs Z => ?_)
                    refine lv_aload_n F.1 F.2.1 dX0_register_84 rfl (lv_at hl 1 rfl) ?_
                    refine lv_iload_n F.1 F.2.1 dX0_register_85 rfl (lv_at hl 2 rfl) ?_
                    refine lv_iconst (v := (nI 2)) F.1 F.2.1 dX0_register_86 (by decide) ?_
                    refine lv_iload_n F.1 F.2.1 dX0_register_87 rfl (lv_at hl 3 rfl) ?_
                    refine lv_iload_n F.1 F.2.1 dX0_register_88 rfl (lv_at hl 4 rfl) ?_
                    refine lv_iload F.1 F.2.1 dX0_register_89 (lv_at hl 5 rfl) ?_
                    refine lv_bipush (v := (nI 12)) F.1 F.2.1 dX0_register_91 (by decide) ?_
                    refine en_irem F (Nat.lt_of_lt_of_le hb (by decide)) (by decide) (by decide) dX0_register_93 ?_
                    refine ec_callv (Wf := XW G h ad) (σ := xsCk σ (ec_up (xck σ) k (b / 12))) (rest := []) F Z hA (x_define_m l D G h ad _ (xsCk σ (ec_up (xck σ) k (b / 12))) k 2 o a (b % 12) hk (by decide) ho ha (by omega) (xwf_ck hW (by omega)) rk hac) (cwV 5 F.2.2.2.2 (lw_V q89 q91 qs4 q23 q92) rfl rfl rfl (by decide +kernel) ⟨Nat.le_of_ble_eq_true rfl, Nat.le_of_ble_eq_true rfl⟩) (ex_recv Z) rfl hl.1 rfl (Nat.le_of_ble_eq_true rfl) dX0_register_94 ⟨Nat.le_of_ble_eq_true rfl, Nat.le_of_ble_eq_true rfl⟩ (fun σ1 H locs hp Z => ?_)
                    have hp : σ1 = x_define (xsCk σ (ec_up (xck σ) k (b / 12))) k 2 o a (b % 12) := hp
                    rw [hp] at Z
                    refine lv_aload_n F.1 F.2.1 dX0_register_97 rfl (lv_at hl 1 rfl) ?_
                    refine ex_get F Z 1 (by decide) rfl rfl q34 dX0_register_98 ?_
                    refine lv_iload_n F.1 F.2.1 dX0_register_101 rfl (lv_at hl 2 rfl) ?_
                    refine en_bald F Z 2 (xvl (x_define (xsCk σ (ec_up (xck σ) k (b / 12))) k 2 o a (b % 12))) rfl hk dX0_register_102 ?_
                    refine ret _ _ _ _ _ _ rfl Z ?_ dX0_register_103
                    exact ⟨by simp [x_register, c_7, c_8, c_9], by simp [x_register, c_7, c_8, c_9]⟩
                  · skip
                    refine lv_bipush (v := (-3)) F.1 F.2.1 dX0_register_72 (by decide) ?_
                    refine ret _ _ _ _ _ _ rfl Z ?_ dX0_register_74
                    exact ⟨by simp [x_register, c_7, c_8, c_9], by simp [x_register, c_7, c_8, c_9]⟩
            · exact absurd c_6 (by omega)
set_option maxHeartbeats 4000000 in
theorem x_register_b (l : Launch) (D : va_G) (G : ec_G) (h : Nat) (ad : Nat → Nat) (sz : Nat) (σ : XS) (s1 o1 a1 b1 : Int32) (hbad : ¬ (ec_ov o1 ∧ ec_sg s1 ∧ ec_sg a1 ∧ ec_bc b1)) : ec_Mi l yX0_register cX0_register 6 (some .int) 3 D G (XW G h ad) h [.int s1, .int o1, .int a1, .int b1] σ sz (fun r σ' => r = -1 ∧ σ' = σ) := by
  refine ec_walk_i RX0 (by decide) rfl (Nat.le_of_ble_eq_true rfl) ?_
  intro p e s m below meth c A args Q F hA ret Z ls hl
  have hl : lv_has ls 6 [(0, .ref h), (1, .int s1), (2, .int o1), (3, .int a1), (4, .int b1)] := hl
  refine lv_iload_n F.1 F.2.1 dX0_register_0 rfl (lv_at hl 2 rfl) ?_
  refine lv_if_lt (tgt := 39) F.1 F.2.1 dX0_register_1 (by decide) (fun c_1 => ?_) (fun c_1 => ?_)
  · skip
    refine lv_iconst (v := (-1)) F.1 F.2.1 dX0_register_39 (by decide) ?_
    refine ret _ _ _ _ _ _ rfl Z ?_ dX0_register_40
    exact ⟨rfl, rfl⟩
  · skip
    refine lv_iload_n F.1 F.2.1 dX0_register_4 rfl (lv_at hl 2 rfl) ?_
    refine lv_bipush (v := (nI 8)) F.1 F.2.1 dX0_register_5 (by decide) ?_
    refine lv_icmp_gt (tgt := 39) F.1 F.2.1 dX0_register_7 (by decide) (fun c_2 => ?_) (fun c_2 => ?_)
    · skip
      refine lv_iconst (v := (-1)) F.1 F.2.1 dX0_register_39 (by decide) ?_
      refine ret _ _ _ _ _ _ rfl Z ?_ dX0_register_40
      exact ⟨rfl, rfl⟩
    · skip
      refine lv_aload_n F.1 F.2.1 dX0_register_10 rfl (lv_at hl 0 rfl) ?_
      refine lv_iload_n F.1 F.2.1 dX0_register_11 rfl (lv_at hl 1 rfl) ?_
      by_cases hs_12 : ec_sg s1
      · skip
        refine ec_calli (Wf := XW G h ad) (σ := σ) (rest := []) F Z hA (x_sig1 l D G h ad _ σ s1 hs_12) (cwV 1 F.2.2.2.2 (lw_V q73 q75 qs0 q23 q76) rfl rfl rfl (by decide +kernel) ⟨Nat.le_of_ble_eq_true rfl, Nat.le_of_ble_eq_true rfl⟩) (ex_recv Z) rfl hl.1 rfl (Nat.le_of_ble_eq_true rfl) dX0_register_12 ⟨Nat.le_of_ble_eq_true rfl, Nat.le_of_ble_eq_true rfl⟩ (fun r σ1 H locs hp Z => ?_)
        obtain ⟨hp1, hp2⟩ := hp
        rw [hp1]
        rw [hp2] at Z
        refine en_if_eq (tgt := 39) F (by omega) dX0_register_15 (by decide) (fun c_3 => ?_) (fun c_3 => ?_)
        · exact absurd c_3 (by decide)
        · skip
          refine lv_aload_n F.1 F.2.1 dX0_register_18 rfl (lv_at hl 0 rfl) ?_
          refine lv_iload_n F.1 F.2.1 dX0_register_19 rfl (lv_at hl 3 rfl) ?_
          by_cases hs_20 : ec_sg a1
          · skip
            refine ec_calli (Wf := XW G h ad) (σ := σ) (rest := []) F Z hA (x_sig1 l D G h ad _ σ a1 hs_20) (cwV 1 F.2.2.2.2 (lw_V q73 q75 qs0 q23 q76) rfl rfl rfl (by decide +kernel) ⟨Nat.le_of_ble_eq_true rfl, Nat.le_of_ble_eq_true rfl⟩) (ex_recv Z) rfl hl.1 rfl (Nat.le_of_ble_eq_true rfl) dX0_register_20 ⟨Nat.le_of_ble_eq_true rfl, Nat.le_of_ble_eq_true rfl⟩ (fun r σ1 H locs hp Z => ?_)
            obtain ⟨hp1, hp2⟩ := hp
            rw [hp1]
            rw [hp2] at Z
            refine en_if_eq (tgt := 39) F (by omega) dX0_register_23 (by decide) (fun c_4 => ?_) (fun c_4 => ?_)
            · exact absurd c_4 (by decide)
            · skip
              refine lv_iload F.1 F.2.1 dX0_register_26 (lv_at hl 4 rfl) ?_
              refine lv_if_lt (tgt := 39) F.1 F.2.1 dX0_register_28 (by decide) (fun c_5 => ?_) (fun c_5 => ?_)
              · skip
                refine lv_iconst (v := (-1)) F.1 F.2.1 dX0_register_39 (by decide) ?_
                refine ret _ _ _ _ _ _ rfl Z ?_ dX0_register_40
                exact ⟨rfl, rfl⟩
              · skip
                refine lv_iload F.1 F.2.1 dX0_register_31 (lv_at hl 4 rfl) ?_
                refine lv_sipush (v := (nI 143)) F.1 F.2.1 dX0_register_33 (by decide) ?_
                refine lv_icmp_le (tgt := 41) F.1 F.2.1 dX0_register_36 (by decide) (fun c_6 => ?_) (fun c_6 => ?_)
                · skip
                  exact absurd ⟨⟨c_1, c_2⟩, hs_12, hs_20, ⟨c_5, ec_le143 c_6⟩⟩ hbad
                · skip
                  refine lv_iconst (v := (-1)) F.1 F.2.1 dX0_register_39 (by decide) ?_
                  refine ret _ _ _ _ _ _ rfl Z ?_ dX0_register_40
                  exact ⟨rfl, rfl⟩
          · skip
            refine ec_calli (Wf := XW G h ad) (σ := σ) (rest := []) F Z hA (x_sig0 l D G h ad _ σ a1 hs_20) (cwV 1 F.2.2.2.2 (lw_V q73 q75 qs0 q23 q76) rfl rfl rfl (by decide +kernel) ⟨Nat.le_of_ble_eq_true rfl, Nat.le_of_ble_eq_true rfl⟩) (ex_recv Z) rfl hl.1 rfl (Nat.le_of_ble_eq_true rfl) dX0_register_20 ⟨Nat.le_of_ble_eq_true rfl, Nat.le_of_ble_eq_true rfl⟩ (fun r σ1 H locs hp Z => ?_)
            obtain ⟨hp1, hp2⟩ := hp
            rw [hp1]
            rw [hp2] at Z
            refine en_if_eq (tgt := 39) F (by omega) dX0_register_23 (by decide) (fun c_7 => ?_) (fun c_7 => ?_)
            · skip
              refine lv_iconst (v := (-1)) F.1 F.2.1 dX0_register_39 (by decide) ?_
              refine ret _ _ _ _ _ _ rfl Z ?_ dX0_register_40
              exact ⟨rfl, rfl⟩
            · exact absurd c_7 (by decide)
      · skip
        refine ec_calli (Wf := XW G h ad) (σ := σ) (rest := []) F Z hA (x_sig0 l D G h ad _ σ s1 hs_12) (cwV 1 F.2.2.2.2 (lw_V q73 q75 qs0 q23 q76) rfl rfl rfl (by decide +kernel) ⟨Nat.le_of_ble_eq_true rfl, Nat.le_of_ble_eq_true rfl⟩) (ex_recv Z) rfl hl.1 rfl (Nat.le_of_ble_eq_true rfl) dX0_register_12 ⟨Nat.le_of_ble_eq_true rfl, Nat.le_of_ble_eq_true rfl⟩ (fun r σ1 H locs hp Z => ?_)
        obtain ⟨hp1, hp2⟩ := hp
        rw [hp1]
        rw [hp2] at Z
        refine en_if_eq (tgt := 39) F (by omega) dX0_register_15 (by decide) (fun c_8 => ?_) (fun c_8 => ?_)
        · skip
          refine lv_iconst (v := (-1)) F.1 F.2.1 dX0_register_39 (by decide) ?_
          refine ret _ _ _ _ _ _ rfl Z ?_ dX0_register_40
          exact ⟨rfl, rfl⟩
        · exact absurd c_8 (by decide)
set_option maxHeartbeats 4000000 in
theorem x_free_m (l : Launch) (D : va_G) (G : ec_G) (h : Nat) (ad : Nat → Nat) (sz : Nat) (σ : XS) (k : Nat) (hk : k < 12) (hW : XWF σ) (rk : ec_A) (hac : ec_Ac (ec_up (xso σ) k 0) (ec_up (xsa σ) k k) (ec_up (xsb σ) k k) rk) : ec_Mi l yX0_free cX0_free 2 (some .int) 3 D G (XW G h ad) h [.int (nI k)] σ sz (fun r σ' => r = (x_free σ k).1 ∧ σ' = (x_free σ k).2) := by
  refine ec_walk_i RX0 (by decide) rfl (Nat.le_of_ble_eq_true rfl) ?_
  intro p e s m below meth c A args Q F hA ret Z ls hl
  have hl : lv_has ls 2 [(0, .ref h), (1, .int (nI k))] := hl
  refine lv_aload_n F.1 F.2.1 dX0_free_0 rfl (lv_at hl 0 rfl) ?_
  refine lv_iload_n F.1 F.2.1 dX0_free_1 rfl (lv_at hl 1 rfl) ?_
  refine ec_calli (Wf := XW G h ad) (σ := σ) (rest := []) F Z hA (x_sig1 l D G h ad _ (σ) (nI k) (ec_sg_nI hk)) (cwV 1 F.2.2.2.2 (lw_V q73 q75 qs0 q23 q76) rfl rfl rfl (by decide +kernel) ⟨Nat.le_of_ble_eq_true rfl, Nat.le_of_ble_eq_true rfl⟩) (ex_recv Z) rfl hl.1 rfl (Nat.le_of_ble_eq_true rfl) dX0_free_2 ⟨Nat.le_of_ble_eq_true rfl, Nat.le_of_ble_eq_true rfl⟩ (fun r σ1 H locs hp Z => ?_)
  obtain ⟨hp1, hp2⟩ := hp
  rw [hp1]
  rw [hp2] at Z
  refine en_if_ne (tgt := 10) F (by omega) dX0_free_5 (by decide) (fun c_1 => ?_) (fun c_1 => ?_)
  · skip
    refine lv_aload_n F.1 F.2.1 dX0_free_10 rfl (lv_at hl 0 rfl) ?_
    refine lv_iload_n F.1 F.2.1 dX0_free_11 rfl (lv_at hl 1 rfl) ?_
    refine lv_iconst (v := (nI 0)) F.1 F.2.1 dX0_free_12 (by decide) ?_
    refine lv_iconst (v := (nI 0)) F.1 F.2.1 dX0_free_13 (by decide) ?_
    refine lv_iload_n F.1 F.2.1 dX0_free_14 rfl (lv_at hl 1 rfl) ?_
    refine lv_iload_n F.1 F.2.1 dX0_free_15 rfl (lv_at hl 1 rfl) ?_
    refine ec_callv (Wf := XW G h ad) (σ := σ) (rest := []) F Z hA (x_define_m l D G h ad _ σ k 0 0 k k hk (by decide) (by decide) hk hk hW rk hac) (cwV 5 F.2.2.2.2 (lw_V q89 q91 qs4 q23 q92) rfl rfl rfl (by decide +kernel) ⟨Nat.le_of_ble_eq_true rfl, Nat.le_of_ble_eq_true rfl⟩) (ex_recv Z) rfl hl.1 rfl (Nat.le_of_ble_eq_true rfl) dX0_free_16 ⟨Nat.le_of_ble_eq_true rfl, Nat.le_of_ble_eq_true rfl⟩ (fun σ1 H locs hp Z => ?_)
    have hp : σ1 = x_define σ k 0 0 k k := hp
    rw [hp] at Z
    refine lv_aload_n F.1 F.2.1 dX0_free_19 rfl (lv_at hl 0 rfl) ?_
    refine ex_get F Z 1 (by decide) rfl rfl q34 dX0_free_20 ?_
    refine lv_iload_n F.1 F.2.1 dX0_free_23 rfl (lv_at hl 1 rfl) ?_
    refine en_bald F Z 2 (xvl (x_define σ k 0 0 k k)) rfl hk dX0_free_24 ?_
    refine ret _ _ _ _ _ _ rfl Z ?_ dX0_free_25
    exact ⟨rfl, rfl⟩
  · exact absurd c_1 (by decide)
set_option maxHeartbeats 4000000 in
theorem x_set_m (l : Launch) (D : va_G) (G : ec_G) (h : Nat) (ad : Nat → Nat) (sz : Nat) (σ : XS) (k v : Nat) (hk : k < 12) (hv : v < 16) (hW : XWF σ) : ec_Mi l yX0_set cX0_set 3 (some .int) 3 D G (XW G h ad) h [.int (nI k), .int (nI v)] σ sz (fun r σ' => r = (x_set σ k v).1 ∧ σ' = (x_set σ k v).2) := by
  refine ec_walk_i RX0 (by decide) rfl (Nat.le_of_ble_eq_true rfl) ?_
  intro p e s m below meth c A args Q F hA ret Z ls hl
  have hl : lv_has ls 3 [(0, .ref h), (1, .int (nI k)), (2, .int (nI v))] := hl
  refine lv_aload_n F.1 F.2.1 dX0_set_0 rfl (lv_at hl 0 rfl) ?_
  refine lv_iload_n F.1 F.2.1 dX0_set_1 rfl (lv_at hl 1 rfl) ?_
  refine ec_calli (Wf := XW G h ad) (σ := σ) (rest := []) F Z hA (x_sig1 l D G h ad _ (σ) (nI k) (ec_sg_nI hk)) (cwV 1 F.2.2.2.2 (lw_V q73 q75 qs0 q23 q76) rfl rfl rfl (by decide +kernel) ⟨Nat.le_of_ble_eq_true rfl, Nat.le_of_ble_eq_true rfl⟩) (ex_recv Z) rfl hl.1 rfl (Nat.le_of_ble_eq_true rfl) dX0_set_2 ⟨Nat.le_of_ble_eq_true rfl, Nat.le_of_ble_eq_true rfl⟩ (fun r σ1 H locs hp Z => ?_)
  obtain ⟨hp1, hp2⟩ := hp
  rw [hp1]
  rw [hp2] at Z
  refine en_if_eq (tgt := 18) F (by omega) dX0_set_5 (by decide) (fun c_1 => ?_) (fun c_1 => ?_)
  · exact absurd c_1 (by decide)
  · skip
    refine lv_iload_n F.1 F.2.1 dX0_set_8 rfl (lv_at hl 2 rfl) ?_
    refine lv_if_lt (tgt := 18) F.1 F.2.1 dX0_set_9 (by decide) (fun c_2 => ?_) (fun c_2 => ?_)
    · exact absurd c_2 (nI_pos (by omega))
    · skip
      refine lv_iload_n F.1 F.2.1 dX0_set_12 rfl (lv_at hl 2 rfl) ?_
      refine lv_bipush (v := (nI 15)) F.1 F.2.1 dX0_set_13 (by decide) ?_
      refine en_icmp_le (tgt := 20) F (Nat.lt_of_lt_of_le hv (by decide)) (by omega) dX0_set_15 (by decide) (fun c_3 => ?_) (fun c_3 => ?_)
      · skip
        refine lv_aload_n F.1 F.2.1 dX0_set_20 rfl (lv_at hl 0 rfl) ?_
        refine ex_get F Z 0 (by decide) rfl rfl q33 dX0_set_21 ?_
        refine lv_iload_n F.1 F.2.1 dX0_set_24 rfl (lv_at hl 1 rfl) ?_
        refine en_bald F Z 1 (xso σ) rfl hk dX0_set_25 ?_
        refine en_if_eq (tgt := 32) F (Nat.lt_of_lt_of_le (hW.1 _ hk) (by decide)) dX0_set_26 (by decide) (fun c_4 => ?_) (fun c_4 => ?_)
        · skip
          refine lv_aload_n F.1 F.2.1 dX0_set_32 rfl (lv_at hl 0 rfl) ?_
          refine lv_iload_n F.1 F.2.1 dX0_set_33 rfl (lv_at hl 1 rfl) ?_
          refine lv_iload_n F.1 F.2.1 dX0_set_34 rfl (lv_at hl 2 rfl) ?_
          refine ec_calli (Wf := XW G h ad) (σ := σ) (rest := []) F Z hA (x_change_m l D G h ad _ σ k v hk hv hW) (cwV 2 F.2.2.2.2 (lw_V q125 q127 qs10 q23 q128) rfl rfl rfl (by decide +kernel) ⟨Nat.le_of_ble_eq_true rfl, Nat.le_of_ble_eq_true rfl⟩) (ex_recv Z) rfl hl.1 rfl (Nat.le_of_ble_eq_true rfl) dX0_set_35 ⟨Nat.le_of_ble_eq_true rfl, Nat.le_of_ble_eq_true rfl⟩ (fun r σ1 H locs hp Z => ?_)
          obtain ⟨hp1, hp2⟩ := hp
          rw [hp1]
          rw [hp2] at Z
          refine ret _ _ _ _ _ _ rfl Z ?_ dX0_set_38
          unfold x_set
          rw [if_pos c_4]
          exact ⟨rfl, rfl⟩
        · skip
          refine lv_bipush (v := (-3)) F.1 F.2.1 dX0_set_29 (by decide) ?_
          refine ret _ _ _ _ _ _ rfl Z ?_ dX0_set_31
          unfold x_set
          rw [if_neg c_4]
          exact ⟨rfl, rfl⟩
      · exact absurd c_3 (by omega)
set_option maxHeartbeats 4000000 in
theorem x_pulse_m (l : Launch) (D : va_G) (G : ec_G) (h : Nat) (ad : Nat → Nat) (sz : Nat) (σ : XS) (k v : Nat) (n : Int32) (hk : k < 12) (hv : v < 16) (hW : XWF σ) : ec_Mi l yX0_pulse cX0_pulse 8 (some .int) 3 D G (XW G h ad) h [.int (nI k), .int (nI v), .int n] σ sz (fun r σ' => r = (x_pulseR σ k v (ec_tm n)).1 ∧ σ' = (x_pulseR σ k v (ec_tm n)).2) := by
  refine ec_walk_i RX0 (by decide) rfl (Nat.le_of_ble_eq_true rfl) ?_
  intro p e s m below meth c A args Q F hA ret Z ls hl
  have hl : lv_has ls 8 [(0, .ref h), (1, .int (nI k)), (2, .int (nI v)), (3, .int n)] := hl
  have ht := ec_tm_le n
  have hf : xvl σ k < 16 := hW.2.1 k hk
  refine lv_aload_n F.1 F.2.1 dX0_pulse_0 rfl (lv_at hl 0 rfl) ?_
  refine lv_iload_n F.1 F.2.1 dX0_pulse_1 rfl (lv_at hl 1 rfl) ?_
  refine ec_calli (Wf := XW G h ad) (σ := σ) (rest := []) F Z hA (x_sig1 l D G h ad _ (σ) (nI k) (ec_sg_nI hk)) (cwV 1 F.2.2.2.2 (lw_V q73 q75 qs0 q23 q76) rfl rfl rfl (by decide +kernel) ⟨Nat.le_of_ble_eq_true rfl, Nat.le_of_ble_eq_true rfl⟩) (ex_recv Z) rfl hl.1 rfl (Nat.le_of_ble_eq_true rfl) dX0_pulse_2 ⟨Nat.le_of_ble_eq_true rfl, Nat.le_of_ble_eq_true rfl⟩ (fun r σ1 H locs hp Z => ?_)
  obtain ⟨hp1, hp2⟩ := hp
  rw [hp1]
  rw [hp2] at Z
  refine en_if_eq (tgt := 18) F (by omega) dX0_pulse_5 (by decide) (fun c_1 => ?_) (fun c_1 => ?_)
  · exact absurd c_1 (by decide)
  · skip
    refine lv_iload_n F.1 F.2.1 dX0_pulse_8 rfl (lv_at hl 2 rfl) ?_
    refine lv_if_lt (tgt := 18) F.1 F.2.1 dX0_pulse_9 (by decide) (fun c_2 => ?_) (fun c_2 => ?_)
    · exact absurd c_2 (nI_pos (by omega))
    · skip
      refine lv_iload_n F.1 F.2.1 dX0_pulse_12 rfl (lv_at hl 2 rfl) ?_
      refine lv_bipush (v := (nI 15)) F.1 F.2.1 dX0_pulse_13 (by decide) ?_
      refine en_icmp_le (tgt := 20) F (Nat.lt_of_lt_of_le hv (by decide)) (by omega) dX0_pulse_15 (by decide) (fun c_3 => ?_) (fun c_3 => ?_)
      · skip
        refine lv_aload_n F.1 F.2.1 dX0_pulse_20 rfl (lv_at hl 0 rfl) ?_
        refine ex_get F Z 0 (by decide) rfl rfl q33 dX0_pulse_21 ?_
        refine lv_iload_n F.1 F.2.1 dX0_pulse_24 rfl (lv_at hl 1 rfl) ?_
        refine en_bald F Z 1 (xso σ) rfl hk dX0_pulse_25 ?_
        refine en_if_eq (tgt := 32) F (Nat.lt_of_lt_of_le (hW.1 _ hk) (by decide)) dX0_pulse_26 (by decide) (fun c_4 => ?_) (fun c_4 => ?_)
        · skip
          refine lv_aload_n F.1 F.2.1 dX0_pulse_32 rfl (lv_at hl 0 rfl) ?_
          refine ex_get F Z 1 (by decide) rfl rfl q34 dX0_pulse_33 ?_
          refine lv_iload_n F.1 F.2.1 dX0_pulse_36 rfl (lv_at hl 1 rfl) ?_
          refine en_bald F Z 2 (xvl σ) rfl hk dX0_pulse_37 ?_
          refine lv_istore (lv' := [(4, .int (nI (xvl σ k))), (0, .ref h), (1, .int (nI k)), (2, .int (nI v)), (3, .int n)]) F.1 F.2.1 dX0_pulse_38 hl (by decide) rfl (fun ls hl => ?_)
          refine lv_iload_n F.1 F.2.1 dX0_pulse_40 rfl (lv_at hl 4 rfl) ?_
          refine lv_if_ge (tgt := 48) F.1 F.2.1 dX0_pulse_41 (by decide) (fun c_5 => ?_) (fun c_5 => ?_)
          · skip
            refine lv_iload_n F.1 F.2.1 dX0_pulse_48 rfl (lv_at hl 4 rfl) ?_
            refine lv_bipush (v := (nI 16)) F.1 F.2.1 dX0_pulse_49 (by decide) ?_
            refine lv_icmp_le (tgt := 59) F.1 F.2.1 dX0_pulse_51 (by decide) (fun c_6 => ?_) (fun c_6 => ?_)
            · skip
              refine lv_iload_n F.1 F.2.1 dX0_pulse_59 rfl (lv_at hl 4 rfl) ?_
              have e9 : n = nI (ec_tm n) := (ec_tm_mid (ec_ge1 c_5) (ec_le1 c_6)).2
              refine W.eq (g2 := F0 m 60 ls [.int (nI (ec_tm n))]) (by rw [← e9]) ?_
              refine lv_istore (lv' := [(5, .int (nI (ec_tm n))), (4, .int (nI (xvl σ k))), (0, .ref h), (1, .int (nI k)), (2, .int (nI v)), (3, .int n)]) F.1 F.2.1 dX0_pulse_60 hl (by decide) rfl (fun ls hl => ?_)
              refine lv_iconst (v := (nI 0)) F.1 F.2.1 dX0_pulse_62 (by decide) ?_
              refine lv_istore (lv' := [(6, .int (nI 0)), (5, .int (nI (ec_tm n))), (4, .int (nI (xvl σ k))), (0, .ref h), (1, .int (nI k)), (2, .int (nI v)), (3, .int n)]) F.1 F.2.1 dX0_pulse_63 hl (by decide) rfl (fun ls hl => ?_)
              refine lv_iconst (v := (nI 0)) F.1 F.2.1 dX0_pulse_65 (by decide) ?_
              refine lv_istore (lv' := [(7, .int (nI 0)), (6, .int (nI 0)), (5, .int (nI (ec_tm n))), (4, .int (nI (xvl σ k))), (0, .ref h), (1, .int (nI k)), (2, .int (nI v)), (3, .int n)]) F.1 F.2.1 dX0_pulse_66 hl (by decide) rfl (fun ls hl => ?_)
              refine ec_lp_run (S := Nat × XS) (x_pu k v (xvl σ k)) (fun i z => XWF z.2) (fun i z => ∀ (H : Heap) (locs : List Loc), ec_Z D G A s (XW G h ad z.2) H locs → ∀ ls : Array Slot, lv_has ls 8 [(7, .int (nI i)), (6, .int (nI z.1)), (0, .ref h), (1, .int (nI k)), (2, .int (nI v)), (4, .int (nI (xvl σ k))), (5, .int (nI (ec_tm n)))] → W p l e (ec_rm 3) s m args below meth c H locs 0 0 Q (F0 m 68 ls [])) (ec_tm n) (fun i _ _ h => x_pu_wf hk hv hf i h) ?_ (ec_tm n) 0 (0, σ) (Nat.zero_add _) hW ?_ _ _ Z ls (lv_sub hl [0, 1, 4, 5, 6, 3, 2] rfl)
              · intro i z hi_i hz_i kk_i H locs Z ls hl
                refine lv_iload F.1 F.2.1 dX0_pulse_68 (lv_at hl 0 rfl) ?_
                refine lv_iload F.1 F.2.1 dX0_pulse_70 (lv_at hl 6 rfl) ?_
                refine en_icmp_ge (tgt := 114) F (by omega) (by omega) dX0_pulse_72 (by decide) (fun c_7 => ?_) (fun c_7 => ?_)
                · exact absurd hi_i (Nat.not_lt.mpr c_7)
                · skip
                  refine lv_aload_n F.1 F.2.1 dX0_pulse_75 rfl (lv_at hl 2 rfl) ?_
                  refine lv_iload_n F.1 F.2.1 dX0_pulse_76 rfl (lv_at hl 3 rfl) ?_
                  refine lv_iload_n F.1 F.2.1 dX0_pulse_77 rfl (lv_at hl 4 rfl) ?_
                  refine ec_calli (Wf := XW G h ad) (σ := z.2) (rest := []) F Z hA (x_change_m l D G h ad _ z.2 k v hk hv hz_i) (cwV 2 F.2.2.2.2 (lw_V q125 q127 qs10 q23 q128) rfl rfl rfl (by decide +kernel) ⟨Nat.le_of_ble_eq_true rfl, Nat.le_of_ble_eq_true rfl⟩) (ex_recv Z) rfl hl.1 rfl (Nat.le_of_ble_eq_true rfl) dX0_pulse_78 ⟨Nat.le_of_ble_eq_true rfl, Nat.le_of_ble_eq_true rfl⟩ (fun r σ1 H locs hp Z => ?_)
                  have hp2 : σ1 = x_change z.2 k v := hp.2
                  rw [hp2] at Z
                  refine lv_pop F.1 F.2.1 dX0_pulse_81 rfl ?_
                  refine lv_iload F.1 F.2.1 dX0_pulse_82 (lv_at hl 1 rfl) ?_
                  refine lv_aload_n F.1 F.2.1 dX0_pulse_84 rfl (lv_at hl 2 rfl) ?_
                  refine ec_calli (Wf := XW G h ad) (σ := x_change z.2 k v) (rest := [.int (nI z.1)]) F Z hA (x_regs_m l D G h ad _ (x_change z.2 k v) (xwf_change hz_i hk hv)) (cwV 0 F.2.2.2.2 (lw_V q137 q139 qs12 q23 q140) rfl rfl rfl (by decide +kernel) ⟨Nat.le_of_ble_eq_true rfl, Nat.le_of_ble_eq_true rfl⟩) (ex_recv Z) rfl hl.1 rfl (Nat.le_of_ble_eq_true rfl) dX0_pulse_85 ⟨Nat.le_of_ble_eq_true rfl, Nat.le_of_ble_eq_true rfl⟩ (fun r σ1 H locs hp Z => ?_)
                  obtain ⟨hp1, hp2⟩ := hp
                  rw [hp1]
                  rw [hp2] at Z
                  refine en_iadd F dX0_pulse_88 ?_
                  refine lv_istore (lv' := [(6, .int (nI (z.1 + (x_regs (xld (x_change z.2 k v)))))), (7, .int (nI i)), (0, .ref h), (1, .int (nI k)), (2, .int (nI v)), (4, .int (nI (xvl σ k))), (5, .int (nI (ec_tm n)))]) F.1 F.2.1 dX0_pulse_89 hl (by decide) rfl (fun ls hl => ?_)
                  refine lv_aload_n F.1 F.2.1 dX0_pulse_91 rfl (lv_at hl 2 rfl) ?_
                  refine lv_iload_n F.1 F.2.1 dX0_pulse_92 rfl (lv_at hl 3 rfl) ?_
                  refine lv_iload F.1 F.2.1 dX0_pulse_93 (lv_at hl 5 rfl) ?_
                  refine ec_calli (Wf := XW G h ad) (σ := x_change z.2 k v) (rest := []) F Z hA (x_change_m l D G h ad _ (x_change z.2 k v) k (xvl σ k) hk hf (xwf_change hz_i hk hv)) (cwV 2 F.2.2.2.2 (lw_V q125 q127 qs10 q23 q128) rfl rfl rfl (by decide +kernel) ⟨Nat.le_of_ble_eq_true rfl, Nat.le_of_ble_eq_true rfl⟩) (ex_recv Z) rfl hl.1 rfl (Nat.le_of_ble_eq_true rfl) dX0_pulse_95 ⟨Nat.le_of_ble_eq_true rfl, Nat.le_of_ble_eq_true rfl⟩ (fun r σ1 H locs hp Z => ?_)
                  have hp2 : σ1 = x_change (x_change z.2 k v) k (xvl σ k) := hp.2
                  rw [hp2] at Z
                  refine lv_pop F.1 F.2.1 dX0_pulse_98 rfl ?_
                  refine lv_iload F.1 F.2.1 dX0_pulse_99 (lv_at hl 0 rfl) ?_
                  refine lv_aload_n F.1 F.2.1 dX0_pulse_101 rfl (lv_at hl 2 rfl) ?_
                  refine ec_calli (Wf := XW G h ad) (σ := x_change (x_change z.2 k v) k (xvl σ k)) (rest := [.int (nI (z.1 + (x_regs (xld (x_change z.2 k v)))))]) F Z hA (x_regs_m l D G h ad _ (x_change (x_change z.2 k v) k (xvl σ k)) (xwf_change (xwf_change hz_i hk hv) hk hf)) (cwV 0 F.2.2.2.2 (lw_V q137 q139 qs12 q23 q140) rfl rfl rfl (by decide +kernel) ⟨Nat.le_of_ble_eq_true rfl, Nat.le_of_ble_eq_true rfl⟩) (ex_recv Z) rfl hl.1 rfl (Nat.le_of_ble_eq_true rfl) dX0_pulse_102 ⟨Nat.le_of_ble_eq_true rfl, Nat.le_of_ble_eq_true rfl⟩ (fun r σ1 H locs hp Z => ?_)
                  obtain ⟨hp1, hp2⟩ := hp
                  rw [hp1]
                  rw [hp2] at Z
                  refine en_iadd F dX0_pulse_105 ?_
                  refine lv_istore (lv' := [(6, .int (nI (z.1 + (x_regs (xld (x_change z.2 k v))) + (x_regs (xld (x_change (x_change z.2 k v) k (xvl σ k))))))), (7, .int (nI i)), (0, .ref h), (1, .int (nI k)), (2, .int (nI v)), (4, .int (nI (xvl σ k))), (5, .int (nI (ec_tm n)))]) F.1 F.2.1 dX0_pulse_106 hl (by decide) rfl (fun ls hl => ?_)
                  refine en_iinc (lv' := [(7, .int (nI (i + 1))), (6, .int (nI (z.1 + (x_regs (xld (x_change z.2 k v))) + (x_regs (xld (x_change (x_change z.2 k v) k (xvl σ k))))))), (0, .ref h), (1, .int (nI k)), (2, .int (nI v)), (4, .int (nI (xvl σ k))), (5, .int (nI (ec_tm n)))]) F dX0_pulse_108 hl (k := 1) rfl (by decide) rfl (fun ls hl => ?_)
                  refine lv_goto (tgt := 68) F.1 F.2.1 dX0_pulse_111 (by decide) ?_
                  exact kk_i _ _ Z ls (lv_sub hl [0, 1, 2, 3, 4, 5, 6] rfl)
              · intro H locs Z ls hl
                refine lv_iload F.1 F.2.1 dX0_pulse_68 (lv_at hl 0 rfl) ?_
                refine lv_iload F.1 F.2.1 dX0_pulse_70 (lv_at hl 6 rfl) ?_
                refine en_icmp_ge (tgt := 114) F (by omega) (by omega) dX0_pulse_72 (by decide) (fun c_8 => ?_) (fun c_8 => ?_)
                · skip
                  refine lv_iload F.1 F.2.1 dX0_pulse_114 (lv_at hl 1 rfl) ?_
                  refine ret _ _ _ _ _ _ rfl Z ?_ dX0_pulse_116
                  unfold x_pulseR
                  rw [if_pos c_4]
                  exact ⟨rfl, rfl⟩
                · exact absurd c_8 (Nat.lt_irrefl _)
            · skip
              refine lv_bipush (v := (nI 16)) F.1 F.2.1 dX0_pulse_54 (by decide) ?_
              refine lv_goto (tgt := 60) F.1 F.2.1 dX0_pulse_56 (by decide) ?_
              have e9 : nI 16 = nI (ec_tm n) := by rw [ec_tm_big (ec_ge1 c_5) (ec_le0 c_6)]
              refine W.eq (g2 := F0 m 60 ls [.int (nI (ec_tm n))]) (by rw [← e9]) ?_
              refine lv_istore (lv' := [(5, .int (nI (ec_tm n))), (4, .int (nI (xvl σ k))), (0, .ref h), (1, .int (nI k)), (2, .int (nI v)), (3, .int n)]) F.1 F.2.1 dX0_pulse_60 hl (by decide) rfl (fun ls hl => ?_)
              refine lv_iconst (v := (nI 0)) F.1 F.2.1 dX0_pulse_62 (by decide) ?_
              refine lv_istore (lv' := [(6, .int (nI 0)), (5, .int (nI (ec_tm n))), (4, .int (nI (xvl σ k))), (0, .ref h), (1, .int (nI k)), (2, .int (nI v)), (3, .int n)]) F.1 F.2.1 dX0_pulse_63 hl (by decide) rfl (fun ls hl => ?_)
              refine lv_iconst (v := (nI 0)) F.1 F.2.1 dX0_pulse_65 (by decide) ?_
              refine lv_istore (lv' := [(7, .int (nI 0)), (6, .int (nI 0)), (5, .int (nI (ec_tm n))), (4, .int (nI (xvl σ k))), (0, .ref h), (1, .int (nI k)), (2, .int (nI v)), (3, .int n)]) F.1 F.2.1 dX0_pulse_66 hl (by decide) rfl (fun ls hl => ?_)
              refine ec_lp_run (S := Nat × XS) (x_pu k v (xvl σ k)) (fun i z => XWF z.2) (fun i z => ∀ (H : Heap) (locs : List Loc), ec_Z D G A s (XW G h ad z.2) H locs → ∀ ls : Array Slot, lv_has ls 8 [(7, .int (nI i)), (6, .int (nI z.1)), (0, .ref h), (1, .int (nI k)), (2, .int (nI v)), (4, .int (nI (xvl σ k))), (5, .int (nI (ec_tm n)))] → W p l e (ec_rm 3) s m args below meth c H locs 0 0 Q (F0 m 68 ls [])) (ec_tm n) (fun i _ _ h => x_pu_wf hk hv hf i h) ?_ (ec_tm n) 0 (0, σ) (Nat.zero_add _) hW ?_ _ _ Z ls (lv_sub hl [0, 1, 4, 5, 6, 3, 2] rfl)
              · intro i z hi_i hz_i kk_i H locs Z ls hl
                refine lv_iload F.1 F.2.1 dX0_pulse_68 (lv_at hl 0 rfl) ?_
                refine lv_iload F.1 F.2.1 dX0_pulse_70 (lv_at hl 6 rfl) ?_
                refine en_icmp_ge (tgt := 114) F (by omega) (by omega) dX0_pulse_72 (by decide) (fun c_9 => ?_) (fun c_9 => ?_)
                · exact absurd hi_i (Nat.not_lt.mpr c_9)
                · skip
                  refine lv_aload_n F.1 F.2.1 dX0_pulse_75 rfl (lv_at hl 2 rfl) ?_
                  refine lv_iload_n F.1 F.2.1 dX0_pulse_76 rfl (lv_at hl 3 rfl) ?_
                  refine lv_iload_n F.1 F.2.1 dX0_pulse_77 rfl (lv_at hl 4 rfl) ?_
                  refine ec_calli (Wf := XW G h ad) (σ := z.2) (rest := []) F Z hA (x_change_m l D G h ad _ z.2 k v hk hv hz_i) (cwV 2 F.2.2.2.2 (lw_V q125 q127 qs10 q23 q128) rfl rfl rfl (by decide +kernel) ⟨Nat.le_of_ble_eq_true rfl, Nat.le_of_ble_eq_true rfl⟩) (ex_recv Z) rfl hl.1 rfl (Nat.le_of_ble_eq_true rfl) dX0_pulse_78 ⟨Nat.le_of_ble_eq_true rfl, Nat.le_of_ble_eq_true rfl⟩ (fun r σ1 H locs hp Z => ?_)
                  have hp2 : σ1 = x_change z.2 k v := hp.2
                  rw [hp2] at Z
                  refine lv_pop F.1 F.2.1 dX0_pulse_81 rfl ?_
                  refine lv_iload F.1 F.2.1 dX0_pulse_82 (lv_at hl 1 rfl) ?_
                  refine lv_aload_n F.1 F.2.1 dX0_pulse_84 rfl (lv_at hl 2 rfl) ?_
                  refine ec_calli (Wf := XW G h ad) (σ := x_change z.2 k v) (rest := [.int (nI z.1)]) F Z hA (x_regs_m l D G h ad _ (x_change z.2 k v) (xwf_change hz_i hk hv)) (cwV 0 F.2.2.2.2 (lw_V q137 q139 qs12 q23 q140) rfl rfl rfl (by decide +kernel) ⟨Nat.le_of_ble_eq_true rfl, Nat.le_of_ble_eq_true rfl⟩) (ex_recv Z) rfl hl.1 rfl (Nat.le_of_ble_eq_true rfl) dX0_pulse_85 ⟨Nat.le_of_ble_eq_true rfl, Nat.le_of_ble_eq_true rfl⟩ (fun r σ1 H locs hp Z => ?_)
                  obtain ⟨hp1, hp2⟩ := hp
                  rw [hp1]
                  rw [hp2] at Z
                  refine en_iadd F dX0_pulse_88 ?_
                  refine lv_istore (lv' := [(6, .int (nI (z.1 + (x_regs (xld (x_change z.2 k v)))))), (7, .int (nI i)), (0, .ref h), (1, .int (nI k)), (2, .int (nI v)), (4, .int (nI (xvl σ k))), (5, .int (nI (ec_tm n)))]) F.1 F.2.1 dX0_pulse_89 hl (by decide) rfl (fun ls hl => ?_)
                  refine lv_aload_n F.1 F.2.1 dX0_pulse_91 rfl (lv_at hl 2 rfl) ?_
                  refine lv_iload_n F.1 F.2.1 dX0_pulse_92 rfl (lv_at hl 3 rfl) ?_
                  refine lv_iload F.1 F.2.1 dX0_pulse_93 (lv_at hl 5 rfl) ?_
                  refine ec_calli (Wf := XW G h ad) (σ := x_change z.2 k v) (rest := []) F Z hA (x_change_m l D G h ad _ (x_change z.2 k v) k (xvl σ k) hk hf (xwf_change hz_i hk hv)) (cwV 2 F.2.2.2.2 (lw_V q125 q127 qs10 q23 q128) rfl rfl rfl (by decide +kernel) ⟨Nat.le_of_ble_eq_true rfl, Nat.le_of_ble_eq_true rfl⟩) (ex_recv Z) rfl hl.1 rfl (Nat.le_of_ble_eq_true rfl) dX0_pulse_95 ⟨Nat.le_of_ble_eq_true rfl, Nat.le_of_ble_eq_true rfl⟩ (fun r σ1 H locs hp Z => ?_)
                  have hp2 : σ1 = x_change (x_change z.2 k v) k (xvl σ k) := hp.2
                  rw [hp2] at Z
                  refine lv_pop F.1 F.2.1 dX0_pulse_98 rfl ?_
                  refine lv_iload F.1 F.2.1 dX0_pulse_99 (lv_at hl 0 rfl) ?_
                  refine lv_aload_n F.1 F.2.1 dX0_pulse_101 rfl (lv_at hl 2 rfl) ?_
                  refine ec_calli (Wf := XW G h ad) (σ := x_change (x_change z.2 k v) k (xvl σ k)) (rest := [.int (nI (z.1 + (x_regs (xld (x_change z.2 k v)))))]) F Z hA (x_regs_m l D G h ad _ (x_change (x_change z.2 k v) k (xvl σ k)) (xwf_change (xwf_change hz_i hk hv) hk hf)) (cwV 0 F.2.2.2.2 (lw_V q137 q139 qs12 q23 q140) rfl rfl rfl (by decide +kernel) ⟨Nat.le_of_ble_eq_true rfl, Nat.le_of_ble_eq_true rfl⟩) (ex_recv Z) rfl hl.1 rfl (Nat.le_of_ble_eq_true rfl) dX0_pulse_102 ⟨Nat.le_of_ble_eq_true rfl, Nat.le_of_ble_eq_true rfl⟩ (fun r σ1 H locs hp Z => ?_)
                  obtain ⟨hp1, hp2⟩ := hp
                  rw [hp1]
                  rw [hp2] at Z
                  refine en_iadd F dX0_pulse_105 ?_
                  refine lv_istore (lv' := [(6, .int (nI (z.1 + (x_regs (xld (x_change z.2 k v))) + (x_regs (xld (x_change (x_change z.2 k v) k (xvl σ k))))))), (7, .int (nI i)), (0, .ref h), (1, .int (nI k)), (2, .int (nI v)), (4, .int (nI (xvl σ k))), (5, .int (nI (ec_tm n)))]) F.1 F.2.1 dX0_pulse_106 hl (by decide) rfl (fun ls hl => ?_)
                  refine en_iinc (lv' := [(7, .int (nI (i + 1))), (6, .int (nI (z.1 + (x_regs (xld (x_change z.2 k v))) + (x_regs (xld (x_change (x_change z.2 k v) k (xvl σ k))))))), (0, .ref h), (1, .int (nI k)), (2, .int (nI v)), (4, .int (nI (xvl σ k))), (5, .int (nI (ec_tm n)))]) F dX0_pulse_108 hl (k := 1) rfl (by decide) rfl (fun ls hl => ?_)
                  refine lv_goto (tgt := 68) F.1 F.2.1 dX0_pulse_111 (by decide) ?_
                  exact kk_i _ _ Z ls (lv_sub hl [0, 1, 2, 3, 4, 5, 6] rfl)
              · intro H locs Z ls hl
                refine lv_iload F.1 F.2.1 dX0_pulse_68 (lv_at hl 0 rfl) ?_
                refine lv_iload F.1 F.2.1 dX0_pulse_70 (lv_at hl 6 rfl) ?_
                refine en_icmp_ge (tgt := 114) F (by omega) (by omega) dX0_pulse_72 (by decide) (fun c_10 => ?_) (fun c_10 => ?_)
                · skip
                  refine lv_iload F.1 F.2.1 dX0_pulse_114 (lv_at hl 1 rfl) ?_
                  refine ret _ _ _ _ _ _ rfl Z ?_ dX0_pulse_116
                  unfold x_pulseR
                  rw [if_pos c_4]
                  exact ⟨rfl, rfl⟩
                · exact absurd c_10 (Nat.lt_irrefl _)
          · skip
            refine lv_iconst (v := (nI 0)) F.1 F.2.1 dX0_pulse_44 (by decide) ?_
            refine lv_goto (tgt := 60) F.1 F.2.1 dX0_pulse_45 (by decide) ?_
            have e9 : nI 0 = nI (ec_tm n) := by rw [ec_tm_neg (ec_ge0 c_5)]
            refine W.eq (g2 := F0 m 60 ls [.int (nI (ec_tm n))]) (by rw [← e9]) ?_
            refine lv_istore (lv' := [(5, .int (nI (ec_tm n))), (4, .int (nI (xvl σ k))), (0, .ref h), (1, .int (nI k)), (2, .int (nI v)), (3, .int n)]) F.1 F.2.1 dX0_pulse_60 hl (by decide) rfl (fun ls hl => ?_)
            refine lv_iconst (v := (nI 0)) F.1 F.2.1 dX0_pulse_62 (by decide) ?_
            refine lv_istore (lv' := [(6, .int (nI 0)), (5, .int (nI (ec_tm n))), (4, .int (nI (xvl σ k))), (0, .ref h), (1, .int (nI k)), (2, .int (nI v)), (3, .int n)]) F.1 F.2.1 dX0_pulse_63 hl (by decide) rfl (fun ls hl => ?_)
            refine lv_iconst (v := (nI 0)) F.1 F.2.1 dX0_pulse_65 (by decide) ?_
            refine lv_istore (lv' := [(7, .int (nI 0)), (6, .int (nI 0)), (5, .int (nI (ec_tm n))), (4, .int (nI (xvl σ k))), (0, .ref h), (1, .int (nI k)), (2, .int (nI v)), (3, .int n)]) F.1 F.2.1 dX0_pulse_66 hl (by decide) rfl (fun ls hl => ?_)
            refine ec_lp_run (S := Nat × XS) (x_pu k v (xvl σ k)) (fun i z => XWF z.2) (fun i z => ∀ (H : Heap) (locs : List Loc), ec_Z D G A s (XW G h ad z.2) H locs → ∀ ls : Array Slot, lv_has ls 8 [(7, .int (nI i)), (6, .int (nI z.1)), (0, .ref h), (1, .int (nI k)), (2, .int (nI v)), (4, .int (nI (xvl σ k))), (5, .int (nI (ec_tm n)))] → W p l e (ec_rm 3) s m args below meth c H locs 0 0 Q (F0 m 68 ls [])) (ec_tm n) (fun i _ _ h => x_pu_wf hk hv hf i h) ?_ (ec_tm n) 0 (0, σ) (Nat.zero_add _) hW ?_ _ _ Z ls (lv_sub hl [0, 1, 4, 5, 6, 3, 2] rfl)
            · intro i z hi_i hz_i kk_i H locs Z ls hl
              refine lv_iload F.1 F.2.1 dX0_pulse_68 (lv_at hl 0 rfl) ?_
              refine lv_iload F.1 F.2.1 dX0_pulse_70 (lv_at hl 6 rfl) ?_
              refine en_icmp_ge (tgt := 114) F (by omega) (by omega) dX0_pulse_72 (by decide) (fun c_11 => ?_) (fun c_11 => ?_)
              · exact absurd hi_i (Nat.not_lt.mpr c_11)
              · skip
                refine lv_aload_n F.1 F.2.1 dX0_pulse_75 rfl (lv_at hl 2 rfl) ?_
                refine lv_iload_n F.1 F.2.1 dX0_pulse_76 rfl (lv_at hl 3 rfl) ?_
                refine lv_iload_n F.1 F.2.1 dX0_pulse_77 rfl (lv_at hl 4 rfl) ?_
                refine ec_calli (Wf := XW G h ad) (σ := z.2) (rest := []) F Z hA (x_change_m l D G h ad _ z.2 k v hk hv hz_i) (cwV 2 F.2.2.2.2 (lw_V q125 q127 qs10 q23 q128) rfl rfl rfl (by decide +kernel) ⟨Nat.le_of_ble_eq_true rfl, Nat.le_of_ble_eq_true rfl⟩) (ex_recv Z) rfl hl.1 rfl (Nat.le_of_ble_eq_true rfl) dX0_pulse_78 ⟨Nat.le_of_ble_eq_true rfl, Nat.le_of_ble_eq_true rfl⟩ (fun r σ1 H locs hp Z => ?_)
                have hp2 : σ1 = x_change z.2 k v := hp.2
                rw [hp2] at Z
                refine lv_pop F.1 F.2.1 dX0_pulse_81 rfl ?_
                refine lv_iload F.1 F.2.1 dX0_pulse_82 (lv_at hl 1 rfl) ?_
                refine lv_aload_n F.1 F.2.1 dX0_pulse_84 rfl (lv_at hl 2 rfl) ?_
                refine ec_calli (Wf := XW G h ad) (σ := x_change z.2 k v) (rest := [.int (nI z.1)]) F Z hA (x_regs_m l D G h ad _ (x_change z.2 k v) (xwf_change hz_i hk hv)) (cwV 0 F.2.2.2.2 (lw_V q137 q139 qs12 q23 q140) rfl rfl rfl (by decide +kernel) ⟨Nat.le_of_ble_eq_true rfl, Nat.le_of_ble_eq_true rfl⟩) (ex_recv Z) rfl hl.1 rfl (Nat.le_of_ble_eq_true rfl) dX0_pulse_85 ⟨Nat.le_of_ble_eq_true rfl, Nat.le_of_ble_eq_true rfl⟩ (fun r σ1 H locs hp Z => ?_)
                obtain ⟨hp1, hp2⟩ := hp
                rw [hp1]
                rw [hp2] at Z
                refine en_iadd F dX0_pulse_88 ?_
                refine lv_istore (lv' := [(6, .int (nI (z.1 + (x_regs (xld (x_change z.2 k v)))))), (7, .int (nI i)), (0, .ref h), (1, .int (nI k)), (2, .int (nI v)), (4, .int (nI (xvl σ k))), (5, .int (nI (ec_tm n)))]) F.1 F.2.1 dX0_pulse_89 hl (by decide) rfl (fun ls hl => ?_)
                refine lv_aload_n F.1 F.2.1 dX0_pulse_91 rfl (lv_at hl 2 rfl) ?_
                refine lv_iload_n F.1 F.2.1 dX0_pulse_92 rfl (lv_at hl 3 rfl) ?_
                refine lv_iload F.1 F.2.1 dX0_pulse_93 (lv_at hl 5 rfl) ?_
                refine ec_calli (Wf := XW G h ad) (σ := x_change z.2 k v) (rest := []) F Z hA (x_change_m l D G h ad _ (x_change z.2 k v) k (xvl σ k) hk hf (xwf_change hz_i hk hv)) (cwV 2 F.2.2.2.2 (lw_V q125 q127 qs10 q23 q128) rfl rfl rfl (by decide +kernel) ⟨Nat.le_of_ble_eq_true rfl, Nat.le_of_ble_eq_true rfl⟩) (ex_recv Z) rfl hl.1 rfl (Nat.le_of_ble_eq_true rfl) dX0_pulse_95 ⟨Nat.le_of_ble_eq_true rfl, Nat.le_of_ble_eq_true rfl⟩ (fun r σ1 H locs hp Z => ?_)
                have hp2 : σ1 = x_change (x_change z.2 k v) k (xvl σ k) := hp.2
                rw [hp2] at Z
                refine lv_pop F.1 F.2.1 dX0_pulse_98 rfl ?_
                refine lv_iload F.1 F.2.1 dX0_pulse_99 (lv_at hl 0 rfl) ?_
                refine lv_aload_n F.1 F.2.1 dX0_pulse_101 rfl (lv_at hl 2 rfl) ?_
                refine ec_calli (Wf := XW G h ad) (σ := x_change (x_change z.2 k v) k (xvl σ k)) (rest := [.int (nI (z.1 + (x_regs (xld (x_change z.2 k v)))))]) F Z hA (x_regs_m l D G h ad _ (x_change (x_change z.2 k v) k (xvl σ k)) (xwf_change (xwf_change hz_i hk hv) hk hf)) (cwV 0 F.2.2.2.2 (lw_V q137 q139 qs12 q23 q140) rfl rfl rfl (by decide +kernel) ⟨Nat.le_of_ble_eq_true rfl, Nat.le_of_ble_eq_true rfl⟩) (ex_recv Z) rfl hl.1 rfl (Nat.le_of_ble_eq_true rfl) dX0_pulse_102 ⟨Nat.le_of_ble_eq_true rfl, Nat.le_of_ble_eq_true rfl⟩ (fun r σ1 H locs hp Z => ?_)
                obtain ⟨hp1, hp2⟩ := hp
                rw [hp1]
                rw [hp2] at Z
                refine en_iadd F dX0_pulse_105 ?_
                refine lv_istore (lv' := [(6, .int (nI (z.1 + (x_regs (xld (x_change z.2 k v))) + (x_regs (xld (x_change (x_change z.2 k v) k (xvl σ k))))))), (7, .int (nI i)), (0, .ref h), (1, .int (nI k)), (2, .int (nI v)), (4, .int (nI (xvl σ k))), (5, .int (nI (ec_tm n)))]) F.1 F.2.1 dX0_pulse_106 hl (by decide) rfl (fun ls hl => ?_)
                refine en_iinc (lv' := [(7, .int (nI (i + 1))), (6, .int (nI (z.1 + (x_regs (xld (x_change z.2 k v))) + (x_regs (xld (x_change (x_change z.2 k v) k (xvl σ k))))))), (0, .ref h), (1, .int (nI k)), (2, .int (nI v)), (4, .int (nI (xvl σ k))), (5, .int (nI (ec_tm n)))]) F dX0_pulse_108 hl (k := 1) rfl (by decide) rfl (fun ls hl => ?_)
                refine lv_goto (tgt := 68) F.1 F.2.1 dX0_pulse_111 (by decide) ?_
                exact kk_i _ _ Z ls (lv_sub hl [0, 1, 2, 3, 4, 5, 6] rfl)
            · intro H locs Z ls hl
              refine lv_iload F.1 F.2.1 dX0_pulse_68 (lv_at hl 0 rfl) ?_
              refine lv_iload F.1 F.2.1 dX0_pulse_70 (lv_at hl 6 rfl) ?_
              refine en_icmp_ge (tgt := 114) F (by omega) (by omega) dX0_pulse_72 (by decide) (fun c_12 => ?_) (fun c_12 => ?_)
              · skip
                refine lv_iload F.1 F.2.1 dX0_pulse_114 (lv_at hl 1 rfl) ?_
                refine ret _ _ _ _ _ _ rfl Z ?_ dX0_pulse_116
                unfold x_pulseR
                rw [if_pos c_4]
                exact ⟨rfl, rfl⟩
              · exact absurd c_12 (Nat.lt_irrefl _)
        · skip
          refine lv_bipush (v := (-3)) F.1 F.2.1 dX0_pulse_29 (by decide) ?_
          refine ret _ _ _ _ _ _ rfl Z ?_ dX0_pulse_31
          unfold x_pulseR
          rw [if_neg c_4]
          exact ⟨rfl, rfl⟩
      · exact absurd c_3 (by omega)
set_option maxHeartbeats 4000000 in
theorem x_set_b (l : Launch) (D : va_G) (G : ec_G) (h : Nat) (ad : Nat → Nat) (sz : Nat) (σ : XS) (s1 v1 : Int32) (hbad : ¬ (ec_sg s1 ∧ ec_vv v1)) : ec_Mi l yX0_set cX0_set 3 (some .int) 3 D G (XW G h ad) h [.int s1, .int v1] σ sz (fun r σ' => r = -1 ∧ σ' = σ) := by
  refine ec_walk_i RX0 (by decide) rfl (Nat.le_of_ble_eq_true rfl) ?_
  intro p e s m below meth c A args Q F hA ret Z ls hl
  have hl : lv_has ls 3 [(0, .ref h), (1, .int s1), (2, .int v1)] := hl
  refine lv_aload_n F.1 F.2.1 dX0_set_0 rfl (lv_at hl 0 rfl) ?_
  refine lv_iload_n F.1 F.2.1 dX0_set_1 rfl (lv_at hl 1 rfl) ?_
  by_cases hs_2 : ec_sg s1
  · skip
    refine ec_calli (Wf := XW G h ad) (σ := σ) (rest := []) F Z hA (x_sig1 l D G h ad _ σ s1 hs_2) (cwV 1 F.2.2.2.2 (lw_V q73 q75 qs0 q23 q76) rfl rfl rfl (by decide +kernel) ⟨Nat.le_of_ble_eq_true rfl, Nat.le_of_ble_eq_true rfl⟩) (ex_recv Z) rfl hl.1 rfl (Nat.le_of_ble_eq_true rfl) dX0_set_2 ⟨Nat.le_of_ble_eq_true rfl, Nat.le_of_ble_eq_true rfl⟩ (fun r σ1 H locs hp Z => ?_)
    obtain ⟨hp1, hp2⟩ := hp
    rw [hp1]
    rw [hp2] at Z
    refine en_if_eq (tgt := 18) F (by omega) dX0_set_5 (by decide) (fun c_1 => ?_) (fun c_1 => ?_)
    · exact absurd c_1 (by decide)
    · skip
      refine lv_iload_n F.1 F.2.1 dX0_set_8 rfl (lv_at hl 2 rfl) ?_
      refine lv_if_lt (tgt := 18) F.1 F.2.1 dX0_set_9 (by decide) (fun c_2 => ?_) (fun c_2 => ?_)
      · skip
        refine lv_iconst (v := (-1)) F.1 F.2.1 dX0_set_18 (by decide) ?_
        refine ret _ _ _ _ _ _ rfl Z ?_ dX0_set_19
        exact ⟨rfl, rfl⟩
      · skip
        refine lv_iload_n F.1 F.2.1 dX0_set_12 rfl (lv_at hl 2 rfl) ?_
        refine lv_bipush (v := (nI 15)) F.1 F.2.1 dX0_set_13 (by decide) ?_
        refine lv_icmp_le (tgt := 20) F.1 F.2.1 dX0_set_15 (by decide) (fun c_3 => ?_) (fun c_3 => ?_)
        · skip
          exact absurd ⟨hs_2, c_2, ec_le15 c_3⟩ hbad
        · skip
          refine lv_iconst (v := (-1)) F.1 F.2.1 dX0_set_18 (by decide) ?_
          refine ret _ _ _ _ _ _ rfl Z ?_ dX0_set_19
          exact ⟨rfl, rfl⟩
  · skip
    refine ec_calli (Wf := XW G h ad) (σ := σ) (rest := []) F Z hA (x_sig0 l D G h ad _ σ s1 hs_2) (cwV 1 F.2.2.2.2 (lw_V q73 q75 qs0 q23 q76) rfl rfl rfl (by decide +kernel) ⟨Nat.le_of_ble_eq_true rfl, Nat.le_of_ble_eq_true rfl⟩) (ex_recv Z) rfl hl.1 rfl (Nat.le_of_ble_eq_true rfl) dX0_set_2 ⟨Nat.le_of_ble_eq_true rfl, Nat.le_of_ble_eq_true rfl⟩ (fun r σ1 H locs hp Z => ?_)
    obtain ⟨hp1, hp2⟩ := hp
    rw [hp1]
    rw [hp2] at Z
    refine en_if_eq (tgt := 18) F (by omega) dX0_set_5 (by decide) (fun c_4 => ?_) (fun c_4 => ?_)
    · skip
      refine lv_iconst (v := (-1)) F.1 F.2.1 dX0_set_18 (by decide) ?_
      refine ret _ _ _ _ _ _ rfl Z ?_ dX0_set_19
      exact ⟨rfl, rfl⟩
    · exact absurd c_4 (by decide)
set_option maxHeartbeats 4000000 in
theorem x_pulse_b (l : Launch) (D : va_G) (G : ec_G) (h : Nat) (ad : Nat → Nat) (sz : Nat) (σ : XS) (s1 v1 n : Int32) (hbad : ¬ (ec_sg s1 ∧ ec_vv v1)) : ec_Mi l yX0_pulse cX0_pulse 8 (some .int) 3 D G (XW G h ad) h [.int s1, .int v1, .int n] σ sz (fun r σ' => r = -1 ∧ σ' = σ) := by
  refine ec_walk_i RX0 (by decide) rfl (Nat.le_of_ble_eq_true rfl) ?_
  intro p e s m below meth c A args Q F hA ret Z ls hl
  have hl : lv_has ls 8 [(0, .ref h), (1, .int s1), (2, .int v1), (3, .int n)] := hl
  refine lv_aload_n F.1 F.2.1 dX0_pulse_0 rfl (lv_at hl 0 rfl) ?_
  refine lv_iload_n F.1 F.2.1 dX0_pulse_1 rfl (lv_at hl 1 rfl) ?_
  by_cases hs_2 : ec_sg s1
  · skip
    refine ec_calli (Wf := XW G h ad) (σ := σ) (rest := []) F Z hA (x_sig1 l D G h ad _ σ s1 hs_2) (cwV 1 F.2.2.2.2 (lw_V q73 q75 qs0 q23 q76) rfl rfl rfl (by decide +kernel) ⟨Nat.le_of_ble_eq_true rfl, Nat.le_of_ble_eq_true rfl⟩) (ex_recv Z) rfl hl.1 rfl (Nat.le_of_ble_eq_true rfl) dX0_pulse_2 ⟨Nat.le_of_ble_eq_true rfl, Nat.le_of_ble_eq_true rfl⟩ (fun r σ1 H locs hp Z => ?_)
    obtain ⟨hp1, hp2⟩ := hp
    rw [hp1]
    rw [hp2] at Z
    refine en_if_eq (tgt := 18) F (by omega) dX0_pulse_5 (by decide) (fun c_1 => ?_) (fun c_1 => ?_)
    · exact absurd c_1 (by decide)
    · skip
      refine lv_iload_n F.1 F.2.1 dX0_pulse_8 rfl (lv_at hl 2 rfl) ?_
      refine lv_if_lt (tgt := 18) F.1 F.2.1 dX0_pulse_9 (by decide) (fun c_2 => ?_) (fun c_2 => ?_)
      · skip
        refine lv_iconst (v := (-1)) F.1 F.2.1 dX0_pulse_18 (by decide) ?_
        refine ret _ _ _ _ _ _ rfl Z ?_ dX0_pulse_19
        exact ⟨rfl, rfl⟩
      · skip
        refine lv_iload_n F.1 F.2.1 dX0_pulse_12 rfl (lv_at hl 2 rfl) ?_
        refine lv_bipush (v := (nI 15)) F.1 F.2.1 dX0_pulse_13 (by decide) ?_
        refine lv_icmp_le (tgt := 20) F.1 F.2.1 dX0_pulse_15 (by decide) (fun c_3 => ?_) (fun c_3 => ?_)
        · skip
          exact absurd ⟨hs_2, c_2, ec_le15 c_3⟩ hbad
        · skip
          refine lv_iconst (v := (-1)) F.1 F.2.1 dX0_pulse_18 (by decide) ?_
          refine ret _ _ _ _ _ _ rfl Z ?_ dX0_pulse_19
          exact ⟨rfl, rfl⟩
  · skip
    refine ec_calli (Wf := XW G h ad) (σ := σ) (rest := []) F Z hA (x_sig0 l D G h ad _ σ s1 hs_2) (cwV 1 F.2.2.2.2 (lw_V q73 q75 qs0 q23 q76) rfl rfl rfl (by decide +kernel) ⟨Nat.le_of_ble_eq_true rfl, Nat.le_of_ble_eq_true rfl⟩) (ex_recv Z) rfl hl.1 rfl (Nat.le_of_ble_eq_true rfl) dX0_pulse_2 ⟨Nat.le_of_ble_eq_true rfl, Nat.le_of_ble_eq_true rfl⟩ (fun r σ1 H locs hp Z => ?_)
    obtain ⟨hp1, hp2⟩ := hp
    rw [hp1]
    rw [hp2] at Z
    refine en_if_eq (tgt := 18) F (by omega) dX0_pulse_5 (by decide) (fun c_4 => ?_) (fun c_4 => ?_)
    · skip
      refine lv_iconst (v := (-1)) F.1 F.2.1 dX0_pulse_18 (by decide) ?_
      refine ret _ _ _ _ _ _ rfl Z ?_ dX0_pulse_19
      exact ⟨rfl, rfl⟩
    · exact absurd c_4 (by decide)
set_option maxHeartbeats 4000000 in
theorem x_value_m (l : Launch) (D : va_G) (G : ec_G) (h : Nat) (ad : Nat → Nat) (sz : Nat) (σ : XS) (k : Nat) (hk : k < 12) (hW : XWF σ) : ec_Mi l yX0_value cX0_value 2 (some .int) 1 D G (XW G h ad) h [.int (nI k)] σ sz (fun r σ' => r = nI (xvl σ k) ∧ σ' = σ) := by
  refine ec_walk_i RX0 (by decide) rfl (Nat.le_of_ble_eq_true rfl) ?_
  intro p e s m below meth c A args Q F hA ret Z ls hl
  have hl : lv_has ls 2 [(0, .ref h), (1, .int (nI k))] := hl
  refine lv_aload_n F.1 F.2.1 dX0_value_0 rfl (lv_at hl 0 rfl) ?_
  refine lv_iload_n F.1 F.2.1 dX0_value_1 rfl (lv_at hl 1 rfl) ?_
  refine ec_calli (Wf := XW G h ad) (σ := σ) (rest := []) F Z hA (x_sig1 l D G h ad _ (σ) (nI k) (ec_sg_nI hk)) (cwV 1 F.2.2.2.2 (lw_V q73 q75 qs0 q23 q76) rfl rfl rfl (by decide +kernel) ⟨Nat.le_of_ble_eq_true rfl, Nat.le_of_ble_eq_true rfl⟩) (ex_recv Z) rfl hl.1 rfl (Nat.le_of_ble_eq_true rfl) dX0_value_2 ⟨Nat.le_of_ble_eq_true rfl, Nat.le_of_ble_eq_true rfl⟩ (fun r σ1 H locs hp Z => ?_)
  obtain ⟨hp1, hp2⟩ := hp
  rw [hp1]
  rw [hp2] at Z
  refine en_if_eq (tgt := 17) F (by omega) dX0_value_5 (by decide) (fun c_1 => ?_) (fun c_1 => ?_)
  · exact absurd c_1 (by decide)
  · skip
    refine lv_aload_n F.1 F.2.1 dX0_value_8 rfl (lv_at hl 0 rfl) ?_
    refine ex_get F Z 1 (by decide) rfl rfl q34 dX0_value_9 ?_
    refine lv_iload_n F.1 F.2.1 dX0_value_12 rfl (lv_at hl 1 rfl) ?_
    refine en_bald F Z 2 (xvl σ) rfl hk dX0_value_13 ?_
    refine lv_goto (tgt := 18) F.1 F.2.1 dX0_value_14 (by decide) ?_
    refine ret _ _ _ _ _ _ rfl Z ?_ dX0_value_18
    exact ⟨rfl, rfl⟩
set_option maxHeartbeats 4000000 in
theorem x_kind_m (l : Launch) (D : va_G) (G : ec_G) (h : Nat) (ad : Nat → Nat) (sz : Nat) (σ : XS) (k : Nat) (hk : k < 12) (hW : XWF σ) : ec_Mi l yX0_kind cX0_kind 2 (some .int) 1 D G (XW G h ad) h [.int (nI k)] σ sz (fun r σ' => r = nI (xso σ k) ∧ σ' = σ) := by
  refine ec_walk_i RX0 (by decide) rfl (Nat.le_of_ble_eq_true rfl) ?_
  intro p e s m below meth c A args Q F hA ret Z ls hl
  have hl : lv_has ls 2 [(0, .ref h), (1, .int (nI k))] := hl
  refine lv_aload_n F.1 F.2.1 dX0_kind_0 rfl (lv_at hl 0 rfl) ?_
  refine lv_iload_n F.1 F.2.1 dX0_kind_1 rfl (lv_at hl 1 rfl) ?_
  refine ec_calli (Wf := XW G h ad) (σ := σ) (rest := []) F Z hA (x_sig1 l D G h ad _ (σ) (nI k) (ec_sg_nI hk)) (cwV 1 F.2.2.2.2 (lw_V q73 q75 qs0 q23 q76) rfl rfl rfl (by decide +kernel) ⟨Nat.le_of_ble_eq_true rfl, Nat.le_of_ble_eq_true rfl⟩) (ex_recv Z) rfl hl.1 rfl (Nat.le_of_ble_eq_true rfl) dX0_kind_2 ⟨Nat.le_of_ble_eq_true rfl, Nat.le_of_ble_eq_true rfl⟩ (fun r σ1 H locs hp Z => ?_)
  obtain ⟨hp1, hp2⟩ := hp
  rw [hp1]
  rw [hp2] at Z
  refine en_if_eq (tgt := 17) F (by omega) dX0_kind_5 (by decide) (fun c_1 => ?_) (fun c_1 => ?_)
  · exact absurd c_1 (by decide)
  · skip
    refine lv_aload_n F.1 F.2.1 dX0_kind_8 rfl (lv_at hl 0 rfl) ?_
    refine ex_get F Z 0 (by decide) rfl rfl q33 dX0_kind_9 ?_
    refine lv_iload_n F.1 F.2.1 dX0_kind_12 rfl (lv_at hl 1 rfl) ?_
    refine en_bald F Z 1 (xso σ) rfl hk dX0_kind_13 ?_
    refine lv_goto (tgt := 18) F.1 F.2.1 dX0_kind_14 (by decide) ?_
    refine ret _ _ _ _ _ _ rfl Z ?_ dX0_kind_18
    exact ⟨rfl, rfl⟩
set_option maxHeartbeats 4000000 in
theorem x_hanging_m (l : Launch) (D : va_G) (G : ec_G) (h : Nat) (ad : Nat → Nat) (sz : Nat) (σ : XS) (k : Nat) (hk : k < 12) (hW : XWF σ) : ec_Mi l yX0_hanging cX0_hanging 2 (some .int) 1 D G (XW G h ad) h [.int (nI k)] σ sz (fun r σ' => r = nI (x_hang (xli σ) k) ∧ σ' = σ) := by
  refine ec_walk_i RX0 (by decide) rfl (Nat.le_of_ble_eq_true rfl) ?_
  intro p e s m below meth c A args Q F hA ret Z ls hl
  have hl : lv_has ls 2 [(0, .ref h), (1, .int (nI k))] := hl
  refine lv_aload_n F.1 F.2.1 dX0_hanging_0 rfl (lv_at hl 0 rfl) ?_
  refine lv_iload_n F.1 F.2.1 dX0_hanging_1 rfl (lv_at hl 1 rfl) ?_
  refine ec_calli (Wf := XW G h ad) (σ := σ) (rest := []) F Z hA (x_sig1 l D G h ad _ (σ) (nI k) (ec_sg_nI hk)) (cwV 1 F.2.2.2.2 (lw_V q73 q75 qs0 q23 q76) rfl rfl rfl (by decide +kernel) ⟨Nat.le_of_ble_eq_true rfl, Nat.le_of_ble_eq_true rfl⟩) (ex_recv Z) rfl hl.1 rfl (Nat.le_of_ble_eq_true rfl) dX0_hanging_2 ⟨Nat.le_of_ble_eq_true rfl, Nat.le_of_ble_eq_true rfl⟩ (fun r σ1 H locs hp Z => ?_)
  obtain ⟨hp1, hp2⟩ := hp
  rw [hp1]
  rw [hp2] at Z
  refine en_if_eq (tgt := 16) F (by omega) dX0_hanging_5 (by decide) (fun c_1 => ?_) (fun c_1 => ?_)
  · exact absurd c_1 (by decide)
  · skip
    refine lv_aload_n F.1 F.2.1 dX0_hanging_8 rfl (lv_at hl 0 rfl) ?_
    refine lv_iload_n F.1 F.2.1 dX0_hanging_9 rfl (lv_at hl 1 rfl) ?_
    refine ec_calli (Wf := XW G h ad) (σ := σ) (rest := []) F Z hA (x_hang_m l D G h ad _ σ k hk hW) (cwV 1 F.2.2.2.2 (lw_V q85 q87 qs3 q23 q88) rfl rfl rfl (by decide +kernel) ⟨Nat.le_of_ble_eq_true rfl, Nat.le_of_ble_eq_true rfl⟩) (ex_recv Z) rfl hl.1 rfl (Nat.le_of_ble_eq_true rfl) dX0_hanging_10 ⟨Nat.le_of_ble_eq_true rfl, Nat.le_of_ble_eq_true rfl⟩ (fun r σ1 H locs hp Z => ?_)
    obtain ⟨hp1, hp2⟩ := hp
    rw [hp1]
    rw [hp2] at Z
    refine lv_goto (tgt := 17) F.1 F.2.1 dX0_hanging_13 (by decide) ?_
    refine ret _ _ _ _ _ _ rfl Z ?_ dX0_hanging_17
    exact ⟨rfl, rfl⟩
set_option maxHeartbeats 4000000 in
theorem x_value_b (l : Launch) (D : va_G) (G : ec_G) (h : Nat) (ad : Nat → Nat) (sz : Nat) (σ : XS) (s1 : Int32) (hbad : ¬ ec_sg s1) : ec_Mi l yX0_value cX0_value 2 (some .int) 1 D G (XW G h ad) h [.int s1] σ sz (fun r σ' => r = -1 ∧ σ' = σ) := by
  refine ec_walk_i RX0 (by decide) rfl (Nat.le_of_ble_eq_true rfl) ?_
  intro p e s m below meth c A args Q F hA ret Z ls hl
  have hl : lv_has ls 2 [(0, .ref h), (1, .int s1)] := hl
  refine lv_aload_n F.1 F.2.1 dX0_value_0 rfl (lv_at hl 0 rfl) ?_
  refine lv_iload_n F.1 F.2.1 dX0_value_1 rfl (lv_at hl 1 rfl) ?_
  by_cases hs_2 : ec_sg s1
  · skip
    refine ec_calli (Wf := XW G h ad) (σ := σ) (rest := []) F Z hA (x_sig1 l D G h ad _ σ s1 hs_2) (cwV 1 F.2.2.2.2 (lw_V q73 q75 qs0 q23 q76) rfl rfl rfl (by decide +kernel) ⟨Nat.le_of_ble_eq_true rfl, Nat.le_of_ble_eq_true rfl⟩) (ex_recv Z) rfl hl.1 rfl (Nat.le_of_ble_eq_true rfl) dX0_value_2 ⟨Nat.le_of_ble_eq_true rfl, Nat.le_of_ble_eq_true rfl⟩ (fun r σ1 H locs hp Z => ?_)
    obtain ⟨hp1, hp2⟩ := hp
    rw [hp1]
    rw [hp2] at Z
    exact absurd hs_2 hbad
  · skip
    refine ec_calli (Wf := XW G h ad) (σ := σ) (rest := []) F Z hA (x_sig0 l D G h ad _ σ s1 hs_2) (cwV 1 F.2.2.2.2 (lw_V q73 q75 qs0 q23 q76) rfl rfl rfl (by decide +kernel) ⟨Nat.le_of_ble_eq_true rfl, Nat.le_of_ble_eq_true rfl⟩) (ex_recv Z) rfl hl.1 rfl (Nat.le_of_ble_eq_true rfl) dX0_value_2 ⟨Nat.le_of_ble_eq_true rfl, Nat.le_of_ble_eq_true rfl⟩ (fun r σ1 H locs hp Z => ?_)
    obtain ⟨hp1, hp2⟩ := hp
    rw [hp1]
    rw [hp2] at Z
    refine en_if_eq (tgt := 17) F (by omega) dX0_value_5 (by decide) (fun c_1 => ?_) (fun c_1 => ?_)
    · skip
      refine lv_iconst (v := (-1)) F.1 F.2.1 dX0_value_17 (by decide) ?_
      refine ret _ _ _ _ _ _ rfl Z ?_ dX0_value_18
      exact ⟨rfl, rfl⟩
    · exact absurd c_1 (by decide)
set_option maxHeartbeats 4000000 in
theorem x_kind_b (l : Launch) (D : va_G) (G : ec_G) (h : Nat) (ad : Nat → Nat) (sz : Nat) (σ : XS) (s1 : Int32) (hbad : ¬ ec_sg s1) : ec_Mi l yX0_kind cX0_kind 2 (some .int) 1 D G (XW G h ad) h [.int s1] σ sz (fun r σ' => r = -1 ∧ σ' = σ) := by
  refine ec_walk_i RX0 (by decide) rfl (Nat.le_of_ble_eq_true rfl) ?_
  intro p e s m below meth c A args Q F hA ret Z ls hl
  have hl : lv_has ls 2 [(0, .ref h), (1, .int s1)] := hl
  refine lv_aload_n F.1 F.2.1 dX0_kind_0 rfl (lv_at hl 0 rfl) ?_
  refine lv_iload_n F.1 F.2.1 dX0_kind_1 rfl (lv_at hl 1 rfl) ?_
  by_cases hs_2 : ec_sg s1
  · skip
    refine ec_calli (Wf := XW G h ad) (σ := σ) (rest := []) F Z hA (x_sig1 l D G h ad _ σ s1 hs_2) (cwV 1 F.2.2.2.2 (lw_V q73 q75 qs0 q23 q76) rfl rfl rfl (by decide +kernel) ⟨Nat.le_of_ble_eq_true rfl, Nat.le_of_ble_eq_true rfl⟩) (ex_recv Z) rfl hl.1 rfl (Nat.le_of_ble_eq_true rfl) dX0_kind_2 ⟨Nat.le_of_ble_eq_true rfl, Nat.le_of_ble_eq_true rfl⟩ (fun r σ1 H locs hp Z => ?_)
    obtain ⟨hp1, hp2⟩ := hp
    rw [hp1]
    rw [hp2] at Z
    exact absurd hs_2 hbad
  · skip
    refine ec_calli (Wf := XW G h ad) (σ := σ) (rest := []) F Z hA (x_sig0 l D G h ad _ σ s1 hs_2) (cwV 1 F.2.2.2.2 (lw_V q73 q75 qs0 q23 q76) rfl rfl rfl (by decide +kernel) ⟨Nat.le_of_ble_eq_true rfl, Nat.le_of_ble_eq_true rfl⟩) (ex_recv Z) rfl hl.1 rfl (Nat.le_of_ble_eq_true rfl) dX0_kind_2 ⟨Nat.le_of_ble_eq_true rfl, Nat.le_of_ble_eq_true rfl⟩ (fun r σ1 H locs hp Z => ?_)
    obtain ⟨hp1, hp2⟩ := hp
    rw [hp1]
    rw [hp2] at Z
    refine en_if_eq (tgt := 17) F (by omega) dX0_kind_5 (by decide) (fun c_1 => ?_) (fun c_1 => ?_)
    · skip
      refine lv_iconst (v := (-1)) F.1 F.2.1 dX0_kind_17 (by decide) ?_
      refine ret _ _ _ _ _ _ rfl Z ?_ dX0_kind_18
      exact ⟨rfl, rfl⟩
    · exact absurd c_1 (by decide)
set_option maxHeartbeats 4000000 in
theorem x_hanging_b (l : Launch) (D : va_G) (G : ec_G) (h : Nat) (ad : Nat → Nat) (sz : Nat) (σ : XS) (s1 : Int32) (hbad : ¬ ec_sg s1) : ec_Mi l yX0_hanging cX0_hanging 2 (some .int) 1 D G (XW G h ad) h [.int s1] σ sz (fun r σ' => r = -1 ∧ σ' = σ) := by
  refine ec_walk_i RX0 (by decide) rfl (Nat.le_of_ble_eq_true rfl) ?_
  intro p e s m below meth c A args Q F hA ret Z ls hl
  have hl : lv_has ls 2 [(0, .ref h), (1, .int s1)] := hl
  refine lv_aload_n F.1 F.2.1 dX0_hanging_0 rfl (lv_at hl 0 rfl) ?_
  refine lv_iload_n F.1 F.2.1 dX0_hanging_1 rfl (lv_at hl 1 rfl) ?_
  by_cases hs_2 : ec_sg s1
  · skip
    refine ec_calli (Wf := XW G h ad) (σ := σ) (rest := []) F Z hA (x_sig1 l D G h ad _ σ s1 hs_2) (cwV 1 F.2.2.2.2 (lw_V q73 q75 qs0 q23 q76) rfl rfl rfl (by decide +kernel) ⟨Nat.le_of_ble_eq_true rfl, Nat.le_of_ble_eq_true rfl⟩) (ex_recv Z) rfl hl.1 rfl (Nat.le_of_ble_eq_true rfl) dX0_hanging_2 ⟨Nat.le_of_ble_eq_true rfl, Nat.le_of_ble_eq_true rfl⟩ (fun r σ1 H locs hp Z => ?_)
    obtain ⟨hp1, hp2⟩ := hp
    rw [hp1]
    rw [hp2] at Z
    exact absurd hs_2 hbad
  · skip
    refine ec_calli (Wf := XW G h ad) (σ := σ) (rest := []) F Z hA (x_sig0 l D G h ad _ σ s1 hs_2) (cwV 1 F.2.2.2.2 (lw_V q73 q75 qs0 q23 q76) rfl rfl rfl (by decide +kernel) ⟨Nat.le_of_ble_eq_true rfl, Nat.le_of_ble_eq_true rfl⟩) (ex_recv Z) rfl hl.1 rfl (Nat.le_of_ble_eq_true rfl) dX0_hanging_2 ⟨Nat.le_of_ble_eq_true rfl, Nat.le_of_ble_eq_true rfl⟩ (fun r σ1 H locs hp Z => ?_)
    obtain ⟨hp1, hp2⟩ := hp
    rw [hp1]
    rw [hp2] at Z
    refine en_if_eq (tgt := 16) F (by omega) dX0_hanging_5 (by decide) (fun c_1 => ?_) (fun c_1 => ?_)
    · skip
      refine lv_iconst (v := (-1)) F.1 F.2.1 dX0_hanging_16 (by decide) ?_
      refine ret _ _ _ _ _ _ rfl Z ?_ dX0_hanging_17
      exact ⟨rfl, rfl⟩
    · exact absurd c_1 (by decide)
set_option maxHeartbeats 4000000 in
theorem x_free_b (l : Launch) (D : va_G) (G : ec_G) (h : Nat) (ad : Nat → Nat) (sz : Nat) (σ : XS) (s1 : Int32) (hbad : ¬ ec_sg s1) : ec_Mi l yX0_free cX0_free 2 (some .int) 3 D G (XW G h ad) h [.int s1] σ sz (fun r σ' => r = -1 ∧ σ' = σ) := by
  refine ec_walk_i RX0 (by decide) rfl (Nat.le_of_ble_eq_true rfl) ?_
  intro p e s m below meth c A args Q F hA ret Z ls hl
  have hl : lv_has ls 2 [(0, .ref h), (1, .int s1)] := hl
  refine lv_aload_n F.1 F.2.1 dX0_free_0 rfl (lv_at hl 0 rfl) ?_
  refine lv_iload_n F.1 F.2.1 dX0_free_1 rfl (lv_at hl 1 rfl) ?_
  by_cases hs_2 : ec_sg s1
  · skip
    refine ec_calli (Wf := XW G h ad) (σ := σ) (rest := []) F Z hA (x_sig1 l D G h ad _ σ s1 hs_2) (cwV 1 F.2.2.2.2 (lw_V q73 q75 qs0 q23 q76) rfl rfl rfl (by decide +kernel) ⟨Nat.le_of_ble_eq_true rfl, Nat.le_of_ble_eq_true rfl⟩) (ex_recv Z) rfl hl.1 rfl (Nat.le_of_ble_eq_true rfl) dX0_free_2 ⟨Nat.le_of_ble_eq_true rfl, Nat.le_of_ble_eq_true rfl⟩ (fun r σ1 H locs hp Z => ?_)
    obtain ⟨hp1, hp2⟩ := hp
    rw [hp1]
    rw [hp2] at Z
    exact absurd hs_2 hbad
  · skip
    refine ec_calli (Wf := XW G h ad) (σ := σ) (rest := []) F Z hA (x_sig0 l D G h ad _ σ s1 hs_2) (cwV 1 F.2.2.2.2 (lw_V q73 q75 qs0 q23 q76) rfl rfl rfl (by decide +kernel) ⟨Nat.le_of_ble_eq_true rfl, Nat.le_of_ble_eq_true rfl⟩) (ex_recv Z) rfl hl.1 rfl (Nat.le_of_ble_eq_true rfl) dX0_free_2 ⟨Nat.le_of_ble_eq_true rfl, Nat.le_of_ble_eq_true rfl⟩ (fun r σ1 H locs hp Z => ?_)
    obtain ⟨hp1, hp2⟩ := hp
    rw [hp1]
    rw [hp2] at Z
    refine en_if_ne (tgt := 10) F (by omega) dX0_free_5 (by decide) (fun c_1 => ?_) (fun c_1 => ?_)
    · exact absurd c_1 (by decide)
    · skip
      refine lv_iconst (v := (-1)) F.1 F.2.1 dX0_free_8 (by decide) ?_
      refine ret _ _ _ _ _ _ rfl Z ?_ dX0_free_9
      exact ⟨rfl, rfl⟩
end
section
/-! bounds for the second system's walks -/
theorem m_F_lt {τ : MS} (h : MWF τ) {k : Nat} (hk : k < 12) : m_F τ k < 16 := ec_fm_lt (h.2.2.2.2.2 _ (h.2.2.1 k hk)) (h.2.2.2.2.2 _ (h.2.2.2.1 k hk))
theorem m_bf_eq (τ : MS) : ∀ i, i < 12 → m_bf τ i = mvl τ i := by
  have key := ec_lp_inv (ec_bfc (mvl τ)) (fun r bf => ∀ i, i < r → bf i = mvl τ i) 12 ?_ 12 0 (mbf τ) (by decide) (fun i h => absurd h (Nat.not_lt_zero i))
  · exact key
  · intro r bf _ h i hi
    unfold ec_bfc
    by_cases e : i = r
    · rw [e, ec_up_s]
    · rw [ec_up_n e]; exact h i (by omega)
theorem m_bf_lt {τ : MS} (h : MWF τ) : ∀ i, i < 12 → m_bf τ i < 16 := fun i hi => by rw [m_bf_eq τ i hi]; exact h.2.2.2.2.2 i hi
theorem mwf_find {τ : MS} (h : MWF τ) : MWF (m_find τ) := mwf_on h _
theorem mon_on (τ : MS) (v : ec_A) : mon (msOn τ v) = v := rfl
theorem mon_find (τ : MS) : mon (m_find τ) = ec_fd (mkd τ) (ma τ) (mb τ) (mon τ) := mon_on τ _
theorem m_find_lt {τ : MS} (h : MWF τ) : ∀ i, i < 12 → mon (m_find τ) i < 4096 := by
  rw [mon_find]
  exact ec_fd_lt h.2.2.1 h.2.2.2.1
theorem mwf_ck {τ : MS} (h : MWF τ) {k v : Nat} (hv : v < 12) : MWF (msCk τ (ec_up (mck τ) k v)) := by
  obtain ⟨h1, h2, h3, h4, h5, h6⟩ := h
  exact ⟨h1, h2, h3, h4, ec_up_lt h5 hv, h6⟩
theorem mwf_kd {τ : MS} (h : MWF τ) {k v : Nat} (hv : v < 3) : MWF (msG τ (ec_up (mkd τ) k v) (mop τ) (ma τ) (mb τ)) := by
  obtain ⟨h1, h2, h3, h4, h5, h6⟩ := h
  exact ⟨ec_up_lt h1 hv, h2, h3, h4, h5, h6⟩
theorem m_pu_wf {k v f : Nat} (hv : v < 16) (hf : f < 16) (i : Nat) {z : Nat × MS} (h : MWF z.2) : MWF (m_pu k v f i z).2 := mwf_change (mwf_change h hv) hf
theorem ec_z0_0 (on : ec_A) : ∀ i, i < 12 → ec_lp ec_z0 12 0 on i = 0 := by
  have key := ec_lp_inv ec_z0 (fun r on => ∀ i, i < r → on i = 0) 12 ?_ 12 0 on (by decide) (fun i h => absurd h (Nat.not_lt_zero i))
  · exact key
  · intro r on _ h i hi
    unfold ec_z0
    by_cases e : i = r
    · rw [e, ec_up_s]
    · rw [ec_up_n e]; exact h i (by omega)
theorem ec_d1_lt {kd a b rk : ec_A} (hac : ec_Ac kd a b rk) (ha : ∀ i, i < 12 → a i < 12) (hb : ∀ i, i < 12 → b i < 12) {z : Nat × ec_A} (h : (∀ w, w < 12 → z.2 w ≤ rk w + 1) ∧ z.1 < 13) (i : Nat) (hi : i < 12) :
    (∀ w, w < 12 → (ec_d1 kd a b i z).2 w ≤ rk w + 1) ∧ (ec_d1 kd a b i z).1 < 13 := by
  have h1 := ec_lev_step hac ha hb h.1 i hi
  refine ⟨h1, ?_⟩
  unfold ec_d1
  show (if _ then _ else _) < 13
  split
  · exact ec_lev13 hac h1 i hi
  · exact h.2
theorem ec_d1_lp {kd a b rk : ec_A} (hac : ec_Ac kd a b rk) (ha : ∀ i, i < 12 → a i < 12) (hb : ∀ i, i < 12 → b i < 12) {z : Nat × ec_A} (h : (∀ w, w < 12 → z.2 w ≤ rk w + 1) ∧ z.1 < 13) :
    (∀ w, w < 12 → (ec_lp (ec_d1 kd a b) 12 0 z).2 w ≤ rk w + 1) ∧ (ec_lp (ec_d1 kd a b) 12 0 z).1 < 13 :=
  ec_lp_inv (ec_d1 kd a b) (fun _ z => (∀ w, w < 12 → z.2 w ≤ rk w + 1) ∧ z.1 < 13) 12 (fun i _ hi h => ec_d1_lt hac ha hb h i hi) 12 0 z (by decide) h
theorem ec_f1_lp {on : ec_A} (h : ∀ i, i < 12 → on i < 4096) {s : Nat} (hs : s < 12) : ∀ i, i < 12 → ec_lp (ec_f1 s) 12 0 on i < 4096 :=
  ec_lp_inv (ec_f1 s) (fun _ on => ∀ i, i < 12 → on i < 4096) 12 (fun _ _ ht h => ec_f1_lt h hs ht) 12 0 on (by decide) h
theorem ec_f1_lp2 {on : ec_A} (h : ∀ i, i < 12 → on i < 4096) : ∀ i, i < 12 → ec_lp (fun s on => ec_lp (ec_f1 s) 12 0 on) 12 0 on i < 4096 :=
  ec_lp_inv (fun s on => ec_lp (ec_f1 s) 12 0 on) (fun _ on => ∀ i, i < 12 → on i < 4096) 12 (fun _ _ hs h => ec_f1_lp h hs) 12 0 on (by decide) h
theorem ec_f0_lp {kd a b : ec_A} (ha : ∀ i, i < 12 → a i < 12) (hb : ∀ i, i < 12 → b i < 12) {on : ec_A} : ∀ i, i < 12 → ec_lp (ec_f0 kd a b) 12 0 on i < 4096 :=
  ec_lp_inv (ec_f0 kd a b) (fun s on => ∀ i, i < s → on i < 4096) 12 (fun _ _ hs h => ec_f0_lt ha hb hs h) 12 0 on (by decide) (fun i hi => absurd hi (Nat.not_lt_zero i))
end
section
/-! EventCircuitModel: leaves and loops -/
set_option maxRecDepth 100000
set_option maxHeartbeats 4000000 in
theorem m_sig1 (l : Launch) (D : va_G) (G : ec_G) (h : Nat) (ad : Nat → Nat) (sz : Nat) (τ : MS) (x : Int32) (hx : ec_sg x) : ec_Mi l yX1_isSignal cX1_isSignal 2 (some .boolean) 0 D G (MW G h ad) h [.int x] τ sz (fun r τ' => r = nI 1 ∧ τ' = τ) := by
  refine ec_walk_i RX1 (by decide) rfl (Nat.le_of_ble_eq_true rfl) ?_
  intro p e s m below meth c A args Q F hA ret Z ls hl
  have hl : lv_has ls 2 [(0, .ref h), (1, .int x)] := hl
  refine lv_iload_n F.1 F.2.1 dX1_isSignal_0 rfl (lv_at hl 1 rfl) ?_
  refine lv_if_lt (tgt := 14) F.1 F.2.1 dX1_isSignal_1 (by decide) (fun c_1 => ?_) (fun c_1 => ?_)
  · exact absurd c_1 hx.1
  · skip
    refine lv_iload_n F.1 F.2.1 dX1_isSignal_4 rfl (lv_at hl 1 rfl) ?_
    refine lv_bipush (v := (nI 11)) F.1 F.2.1 dX1_isSignal_5 (by decide) ?_
    refine lv_icmp_gt (tgt := 14) F.1 F.2.1 dX1_isSignal_7 (by decide) (fun c_2 => ?_) (fun c_2 => ?_)
    · exact absurd c_2 hx.2
    · skip
      refine lv_iconst (v := (nI 1)) F.1 F.2.1 dX1_isSignal_10 (by decide) ?_
      refine lv_goto (tgt := 15) F.1 F.2.1 dX1_isSignal_11 (by decide) ?_
      refine ret _ _ _ _ _ _ rfl Z ?_ dX1_isSignal_15
      exact ⟨rfl, rfl⟩
set_option maxHeartbeats 4000000 in
theorem m_sig0 (l : Launch) (D : va_G) (G : ec_G) (h : Nat) (ad : Nat → Nat) (sz : Nat) (τ : MS) (x : Int32) (hx : ¬ ec_sg x) : ec_Mi l yX1_isSignal cX1_isSignal 2 (some .boolean) 0 D G (MW G h ad) h [.int x] τ sz (fun r τ' => r = nI 0 ∧ τ' = τ) := by
  refine ec_walk_i RX1 (by decide) rfl (Nat.le_of_ble_eq_true rfl) ?_
  intro p e s m below meth c A args Q F hA ret Z ls hl
  have hl : lv_has ls 2 [(0, .ref h), (1, .int x)] := hl
  refine lv_iload_n F.1 F.2.1 dX1_isSignal_0 rfl (lv_at hl 1 rfl) ?_
  refine lv_if_lt (tgt := 14) F.1 F.2.1 dX1_isSignal_1 (by decide) (fun c_1 => ?_) (fun c_1 => ?_)
  · skip
    refine lv_iconst (v := (nI 0)) F.1 F.2.1 dX1_isSignal_14 (by decide) ?_
    refine ret _ _ _ _ _ _ rfl Z ?_ dX1_isSignal_15
    exact ⟨rfl, rfl⟩
  · skip
    refine lv_iload_n F.1 F.2.1 dX1_isSignal_4 rfl (lv_at hl 1 rfl) ?_
    refine lv_bipush (v := (nI 11)) F.1 F.2.1 dX1_isSignal_5 (by decide) ?_
    refine lv_icmp_gt (tgt := 14) F.1 F.2.1 dX1_isSignal_7 (by decide) (fun c_2 => ?_) (fun c_2 => ?_)
    · skip
      refine lv_iconst (v := (nI 0)) F.1 F.2.1 dX1_isSignal_14 (by decide) ?_
      refine ret _ _ _ _ _ _ rfl Z ?_ dX1_isSignal_15
      exact ⟨rfl, rfl⟩
    · exact absurd ⟨c_1, c_2⟩ hx
set_option maxHeartbeats 4000000 in
theorem m_clock_m (l : Launch) (D : va_G) (G : ec_G) (h : Nat) (ad : Nat → Nat) (sz : Nat) (τ : MS) (k : Nat) (hk : k < 12) (hW : MWF τ) : ec_Mi l yX1_isClock cX1_isClock 3 (some .boolean) 0 D G (MW G h ad) h [.int (nI k)] τ sz (fun r τ' => r = nI (ec_ck (mkd τ) (mck τ) k 12 0).toNat ∧ τ' = τ) := by
  refine ec_walk_i RX1 (by decide) rfl (Nat.le_of_ble_eq_true rfl) ?_
  intro p e s m below meth c A args Q F hA ret Z ls hl
  have hl : lv_has ls 3 [(0, .ref h), (1, .int (nI k))] := hl
  refine lv_iconst (v := (nI 0)) F.1 F.2.1 dX1_isClock_0 (by decide) ?_
  refine lv_istore_n (lv' := [(2, .int (nI 0)), (0, .ref h), (1, .int (nI k))]) F.1 F.2.1 dX1_isClock_1 rfl hl (by decide) rfl (fun ls hl => ?_)
  refine ec_down 12 (fun n i => ec_ck (mkd τ) (mck τ) k n i = ec_ck (mkd τ) (mck τ) k 12 0 → ∀ (H : Heap) (locs : List Loc), ec_Z D G A s (MW G h ad τ) H locs → ∀ ls : Array Slot, lv_has ls 3 [(2, .int (nI i)), (0, .ref h), (1, .int (nI k))] → W p l e (ec_rm 0) s m args below meth c H locs 0 0 Q (F0 m 2 ls [])) ?_ ?_ 12 0 (by decide) rfl _ _ Z ls (lv_sub hl [0, 1, 2] rfl)
  · intro he H locs Z ls hl
    refine lv_iload_n F.1 F.2.1 dX1_isClock_2 rfl (lv_at hl 0 rfl) ?_
    refine lv_bipush (v := (nI 12)) F.1 F.2.1 dX1_isClock_3 (by decide) ?_
    refine en_icmp_ge (tgt := 36) F (by omega) (by omega) dX1_isClock_5 (by decide) (fun c_1 => ?_) (fun c_1 => ?_)
    · skip
      refine lv_iconst (v := (nI 0)) F.1 F.2.1 dX1_isClock_36 (by decide) ?_
      refine ret _ _ _ _ _ _ rfl Z ?_ dX1_isClock_37
      exact ⟨by rw [← he]; rfl, rfl⟩
    · exact absurd c_1 (by decide)
  · intro n i hin kk he H locs Z ls hl
    have hi : i < 12 := by omega
    refine lv_iload_n F.1 F.2.1 dX1_isClock_2 rfl (lv_at hl 0 rfl) ?_
    refine lv_bipush (v := (nI 12)) F.1 F.2.1 dX1_isClock_3 (by decide) ?_
    refine en_icmp_ge (tgt := 36) F (Nat.lt_of_lt_of_le hi (by decide)) (by omega) dX1_isClock_5 (by decide) (fun c_2 => ?_) (fun c_2 => ?_)
    · exact absurd hi (Nat.not_lt.mpr c_2)
    · skip
      refine lv_aload_n F.1 F.2.1 dX1_isClock_8 rfl (lv_at hl 1 rfl) ?_
      refine em_get F Z 0 (by decide) rfl rfl q163 dX1_isClock_9 ?_
      refine lv_iload_n F.1 F.2.1 dX1_isClock_12 rfl (lv_at hl 0 rfl) ?_
      refine en_iald F Z 1 (mkd τ) rfl hi dX1_isClock_13 ?_
      refine lv_iconst (v := (nI 2)) F.1 F.2.1 dX1_isClock_14 (by decide) ?_
      refine en_icmp_ne (tgt := 30) F (Nat.lt_of_lt_of_le (hW.1 _ hi) (by decide)) (by omega) dX1_isClock_15 (by decide) (fun c_3 => ?_) (fun c_3 => ?_)
      · skip
        refine en_iinc (lv' := [(2, .int (nI (i + 1))), (0, .ref h), (1, .int (nI k))]) F dX1_isClock_30 hl (k := 0) rfl (by decide) rfl (fun ls hl => ?_)
        refine lv_goto (tgt := 2) F.1 F.2.1 dX1_isClock_33 (by decide) ?_
        exact kk (by rw [← he]; simp [ec_ck, c_3]) _ _ Z ls (lv_sub hl [0, 1, 2] rfl)
      · skip
        refine lv_aload_n F.1 F.2.1 dX1_isClock_18 rfl (lv_at hl 1 rfl) ?_
        refine em_get F Z 4 (by decide) rfl rfl q167 dX1_isClock_19 ?_
        refine lv_iload_n F.1 F.2.1 dX1_isClock_22 rfl (lv_at hl 0 rfl) ?_
        refine en_iald F Z 5 (mck τ) rfl hi dX1_isClock_23 ?_
        refine lv_iload_n F.1 F.2.1 dX1_isClock_24 rfl (lv_at hl 2 rfl) ?_
        refine en_icmp_ne (tgt := 30) F (Nat.lt_of_lt_of_le (hW.2.2.2.2.1 _ hi) (by decide)) (Nat.lt_of_lt_of_le hk (by decide)) dX1_isClock_25 (by decide) (fun c_4 => ?_) (fun c_4 => ?_)
        · skip
          refine en_iinc (lv' := [(2, .int (nI (i + 1))), (0, .ref h), (1, .int (nI k))]) F dX1_isClock_30 hl (k := 0) rfl (by decide) rfl (fun ls hl => ?_)
          refine lv_goto (tgt := 2) F.1 F.2.1 dX1_isClock_33 (by decide) ?_
          exact kk (by rw [← he]; simp [ec_ck, c_3, c_4]) _ _ Z ls (lv_sub hl [0, 1, 2] rfl)
        · skip
          refine lv_iconst (v := (nI 1)) F.1 F.2.1 dX1_isClock_28 (by decide) ?_
          refine ret _ _ _ _ _ _ rfl Z ?_ dX1_isClock_29
          exact ⟨by rw [← he]; simp [ec_ck, c_3, c_4], rfl⟩
set_option maxHeartbeats 4000000 in
theorem m_formula_m (l : Launch) (D : va_G) (G : ec_G) (h : Nat) (ad : Nat → Nat) (sz : Nat) (τ : MS) (k : Nat) (hk : k < 12) (hW : MWF τ) : ec_Mi l yX1_formula cX1_formula 4 (some .int) 0 D G (MW G h ad) h [.int (nI k)] τ sz (fun r τ' => r = nI (m_F τ k) ∧ τ' = τ) := by
  refine ec_walk_i RX1 (by decide) rfl (Nat.le_of_ble_eq_true rfl) ?_
  intro p e s m below meth c A args Q F hA ret Z ls hl
  have hl : lv_has ls 4 [(0, .ref h), (1, .int (nI k))] := hl
  refine lv_aload_n F.1 F.2.1 dX1_formula_0 rfl (lv_at hl 0 rfl) ?_
  refine em_get F Z 5 (by decide) rfl rfl q168 dX1_formula_1 ?_
  refine lv_aload_n F.1 F.2.1 dX1_formula_4 rfl (lv_at hl 0 rfl) ?_
  refine em_get F Z 2 (by decide) rfl rfl q165 dX1_formula_5 ?_
  refine lv_iload_n F.1 F.2.1 dX1_formula_8 rfl (lv_at hl 1 rfl) ?_
  refine en_iald F Z 3 (ma τ) rfl hk dX1_formula_9 ?_
  refine en_iald F Z 6 (mvl τ) rfl (hW.2.2.1 _ hk) dX1_formula_10 ?_
  refine lv_istore_n (lv' := [(2, .int (nI (mvl τ (ma τ k)))), (0, .ref h), (1, .int (nI k))]) F.1 F.2.1 dX1_formula_11 rfl hl (by decide) rfl (fun ls hl => ?_)
  refine lv_aload_n F.1 F.2.1 dX1_formula_12 rfl (lv_at hl 1 rfl) ?_
  refine em_get F Z 5 (by decide) rfl rfl q168 dX1_formula_13 ?_
  refine lv_aload_n F.1 F.2.1 dX1_formula_16 rfl (lv_at hl 1 rfl) ?_
  refine em_get F Z 3 (by decide) rfl rfl q166 dX1_formula_17 ?_
  refine lv_iload_n F.1 F.2.1 dX1_formula_20 rfl (lv_at hl 2 rfl) ?_
  refine en_iald F Z 4 (mb τ) rfl hk dX1_formula_21 ?_
  refine en_iald F Z 6 (mvl τ) rfl (hW.2.2.2.1 _ hk) dX1_formula_22 ?_
  refine lv_istore_n (lv' := [(3, .int (nI (mvl τ (mb τ k)))), (2, .int (nI (mvl τ (ma τ k)))), (0, .ref h), (1, .int (nI k))]) F.1 F.2.1 dX1_formula_23 rfl hl (by decide) rfl (fun ls hl => ?_)
  refine lv_aload_n F.1 F.2.1 dX1_formula_24 rfl (lv_at hl 2 rfl) ?_
  refine em_get F Z 1 (by decide) rfl rfl q164 dX1_formula_25 ?_
  refine lv_iload_n F.1 F.2.1 dX1_formula_28 rfl (lv_at hl 3 rfl) ?_
  refine en_iald F Z 2 (mop τ) rfl hk dX1_formula_29 ?_
  refine en_if_ne (tgt := 37) F (Nat.lt_of_lt_of_le (hW.2.1 _ hk) (by decide)) dX1_formula_30 (by decide) (fun c_1 => ?_) (fun c_1 => ?_)
  · skip
    refine lv_aload_n F.1 F.2.1 dX1_formula_37 rfl (lv_at hl 2 rfl) ?_
    refine em_get F Z 1 (by decide) rfl rfl q164 dX1_formula_38 ?_
    refine lv_iload_n F.1 F.2.1 dX1_formula_41 rfl (lv_at hl 3 rfl) ?_
    refine en_iald F Z 2 (mop τ) rfl hk dX1_formula_42 ?_
    refine lv_iconst (v := (nI 1)) F.1 F.2.1 dX1_formula_43 (by decide) ?_
    refine en_icmp_ne (tgt := 51) F (Nat.lt_of_lt_of_le (hW.2.1 _ hk) (by decide)) (by omega) dX1_formula_44 (by decide) (fun c_2 => ?_) (fun c_2 => ?_)
    · skip
      refine lv_aload_n F.1 F.2.1 dX1_formula_51 rfl (lv_at hl 2 rfl) ?_
      refine em_get F Z 1 (by decide) rfl rfl q164 dX1_formula_52 ?_
      refine lv_iload_n F.1 F.2.1 dX1_formula_55 rfl (lv_at hl 3 rfl) ?_
      refine en_iald F Z 2 (mop τ) rfl hk dX1_formula_56 ?_
      refine lv_iconst (v := (nI 2)) F.1 F.2.1 dX1_formula_57 (by decide) ?_
      refine en_icmp_ne (tgt := 65) F (Nat.lt_of_lt_of_le (hW.2.1 _ hk) (by decide)) (by omega) dX1_formula_58 (by decide) (fun c_3 => ?_) (fun c_3 => ?_)
      · skip
        refine lv_aload_n F.1 F.2.1 dX1_formula_65 rfl (lv_at hl 2 rfl) ?_
        refine em_get F Z 1 (by decide) rfl rfl q164 dX1_formula_66 ?_
        refine lv_iload_n F.1 F.2.1 dX1_formula_69 rfl (lv_at hl 3 rfl) ?_
        refine en_iald F Z 2 (mop τ) rfl hk dX1_formula_70 ?_
        refine lv_iconst (v := (nI 3)) F.1 F.2.1 dX1_formula_71 (by decide) ?_
        refine en_icmp_ne (tgt := 82) F (Nat.lt_of_lt_of_le (hW.2.1 _ hk) (by decide)) (by omega) dX1_formula_72 (by decide) (fun c_4 => ?_) (fun c_4 => ?_)
        · skip
          refine lv_aload_n F.1 F.2.1 dX1_formula_82 rfl (lv_at hl 2 rfl) ?_
          refine em_get F Z 1 (by decide) rfl rfl q164 dX1_formula_83 ?_
          refine lv_iload_n F.1 F.2.1 dX1_formula_86 rfl (lv_at hl 3 rfl) ?_
          refine en_iald F Z 2 (mop τ) rfl hk dX1_formula_87 ?_
          refine lv_iconst (v := (nI 4)) F.1 F.2.1 dX1_formula_88 (by decide) ?_
          refine en_icmp_ne (tgt := 99) F (Nat.lt_of_lt_of_le (hW.2.1 _ hk) (by decide)) (by omega) dX1_formula_89 (by decide) (fun c_5 => ?_) (fun c_5 => ?_)
          · skip
            refine lv_aload_n F.1 F.2.1 dX1_formula_99 rfl (lv_at hl 2 rfl) ?_
            refine em_get F Z 1 (by decide) rfl rfl q164 dX1_formula_100 ?_
            refine lv_iload_n F.1 F.2.1 dX1_formula_103 rfl (lv_at hl 3 rfl) ?_
            refine en_iald F Z 2 (mop τ) rfl hk dX1_formula_104 ?_
            refine lv_iconst (v := (nI 5)) F.1 F.2.1 dX1_formula_105 (by decide) ?_
            refine en_icmp_ne (tgt := 120) F (Nat.lt_of_lt_of_le (hW.2.1 _ hk) (by decide)) (by omega) dX1_formula_106 (by decide) (fun c_6 => ?_) (fun c_6 => ?_)
            · skip
              refine lv_aload_n F.1 F.2.1 dX1_formula_120 rfl (lv_at hl 2 rfl) ?_
              refine em_get F Z 1 (by decide) rfl rfl q164 dX1_formula_121 ?_
              refine lv_iload_n F.1 F.2.1 dX1_formula_124 rfl (lv_at hl 3 rfl) ?_
              refine en_iald F Z 2 (mop τ) rfl hk dX1_formula_125 ?_
              refine lv_bipush (v := (nI 6)) F.1 F.2.1 dX1_formula_126 (by decide) ?_
              refine en_icmp_ne (tgt := 133) F (Nat.lt_of_lt_of_le (hW.2.1 _ hk) (by decide)) (by omega) dX1_formula_128 (by decide) (fun c_7 => ?_) (fun c_7 => ?_)
              · skip
                refine lv_aload_n F.1 F.2.1 dX1_formula_133 rfl (lv_at hl 2 rfl) ?_
                refine em_get F Z 1 (by decide) rfl rfl q164 dX1_formula_134 ?_
                refine lv_iload_n F.1 F.2.1 dX1_formula_137 rfl (lv_at hl 3 rfl) ?_
                refine en_iald F Z 2 (mop τ) rfl hk dX1_formula_138 ?_
                refine lv_bipush (v := (nI 7)) F.1 F.2.1 dX1_formula_139 (by decide) ?_
                refine en_icmp_ne (tgt := 149) F (Nat.lt_of_lt_of_le (hW.2.1 _ hk) (by decide)) (by omega) dX1_formula_141 (by decide) (fun c_8 => ?_) (fun c_8 => ?_)
                · skip
                  refine lv_iload_n F.1 F.2.1 dX1_formula_149 rfl (lv_at hl 1 rfl) ?_
                  refine en_if_ne (tgt := 157) F (Nat.lt_of_lt_of_le (hW.2.2.2.2.2 _ (hW.2.2.1 _ hk)) (by decide)) dX1_formula_150 (by decide) (fun c_9 => ?_) (fun c_9 => ?_)
                  · skip
                    refine lv_bipush (v := (nI 15)) F.1 F.2.1 dX1_formula_157 (by decide) ?_
                    refine lv_iload_n F.1 F.2.1 dX1_formula_159 rfl (lv_at hl 0 rfl) ?_
                    refine en_isub F (Nat.le_of_lt_succ (hW.2.2.2.2.2 _ (hW.2.2.2.1 _ hk))) dX1_formula_160 ?_
                    refine ret _ _ _ _ _ _ rfl Z ?_ dX1_formula_161
                    exact ⟨congrArg nI (by simp [m_F, ec_fm, c_1, c_2, c_3, c_4, c_5, c_6, c_7, c_8, c_9]), rfl⟩
                  · skip
                    refine lv_iload_n F.1 F.2.1 dX1_formula_153 rfl (lv_at hl 0 rfl) ?_
                    refine lv_goto (tgt := 161) F.1 F.2.1 dX1_formula_154 (by decide) ?_
                    refine ret _ _ _ _ _ _ rfl Z ?_ dX1_formula_161
                    exact ⟨congrArg nI (by simp [m_F, ec_fm, c_1, c_2, c_3, c_4, c_5, c_6, c_7, c_8, c_9]), rfl⟩
                · skip
                  refine lv_bipush (v := (nI 15)) F.1 F.2.1 dX1_formula_144 (by decide) ?_
                  refine lv_iload_n F.1 F.2.1 dX1_formula_146 rfl (lv_at hl 1 rfl) ?_
                  refine en_isub F (Nat.le_of_lt_succ (hW.2.2.2.2.2 _ (hW.2.2.1 _ hk))) dX1_formula_147 ?_
                  refine ret _ _ _ _ _ _ rfl Z ?_ dX1_formula_148
                  exact ⟨congrArg nI (by simp [m_F, ec_fm, c_1, c_2, c_3, c_4, c_5, c_6, c_7, c_8]), rfl⟩
              · skip
                refine lv_iload_n F.1 F.2.1 dX1_formula_131 rfl (lv_at hl 1 rfl) ?_
                refine ret _ _ _ _ _ _ rfl Z ?_ dX1_formula_132
                exact ⟨congrArg nI (by simp [m_F, ec_fm, c_1, c_2, c_3, c_4, c_5, c_6, c_7]), rfl⟩
            · skip
              refine lv_iload_n F.1 F.2.1 dX1_formula_109 rfl (lv_at hl 1 rfl) ?_
              refine lv_iload_n F.1 F.2.1 dX1_formula_110 rfl (lv_at hl 0 rfl) ?_
              refine en_icmp_ge (tgt := 118) F (Nat.lt_of_lt_of_le (hW.2.2.2.2.2 _ (hW.2.2.1 _ hk)) (by decide)) (Nat.lt_of_lt_of_le (hW.2.2.2.2.2 _ (hW.2.2.2.1 _ hk)) (by decide)) dX1_formula_111 (by decide) (fun c_10 => ?_) (fun c_10 => ?_)
              · skip
                refine lv_iconst (v := (nI 0)) F.1 F.2.1 dX1_formula_118 (by decide) ?_
                refine ret _ _ _ _ _ _ rfl Z ?_ dX1_formula_119
                exact ⟨congrArg nI (by simp [m_F, ec_fm, c_1, c_2, c_3, c_4, c_5, c_6, c_10, Nat.not_lt.mpr c_10]), rfl⟩
              · skip
                refine lv_iconst (v := (nI 1)) F.1 F.2.1 dX1_formula_114 (by decide) ?_
                refine lv_goto (tgt := 119) F.1 F.2.1 dX1_formula_115 (by decide) ?_
                refine ret _ _ _ _ _ _ rfl Z ?_ dX1_formula_119
                exact ⟨congrArg nI (by simp [m_F, ec_fm, c_1, c_2, c_3, c_4, c_5, c_6, c_10]), rfl⟩
          · skip
            refine lv_iload_n F.1 F.2.1 dX1_formula_92 rfl (lv_at hl 1 rfl) ?_
            refine lv_iload_n F.1 F.2.1 dX1_formula_93 rfl (lv_at hl 0 rfl) ?_
            refine lv_isub F.1 F.2.1 dX1_formula_94 ?_
            refine lv_bipush (v := (nI 15)) F.1 F.2.1 dX1_formula_95 (by decide) ?_
            refine en_iand15 F (hW.2.2.2.2.2 _ (hW.2.2.1 _ hk)) (hW.2.2.2.2.2 _ (hW.2.2.2.1 _ hk)) dX1_formula_97 ?_
            refine ret _ _ _ _ _ _ rfl Z ?_ dX1_formula_98
            exact ⟨congrArg nI (by simp [m_F, ec_fm, c_1, c_2, c_3, c_4, c_5]), rfl⟩
        · skip
          refine lv_iload_n F.1 F.2.1 dX1_formula_75 rfl (lv_at hl 1 rfl) ?_
          refine lv_iload_n F.1 F.2.1 dX1_formula_76 rfl (lv_at hl 0 rfl) ?_
          refine en_iadd F dX1_formula_77 ?_
          refine lv_bipush (v := (nI 15)) F.1 F.2.1 dX1_formula_78 (by decide) ?_
          refine en_iand F dX1_formula_80 ?_
          refine ret _ _ _ _ _ _ rfl Z ?_ dX1_formula_81
          exact ⟨congrArg nI (by simp [m_F, ec_fm, c_1, c_2, c_3, c_4]), rfl⟩
      · skip
        refine lv_iload_n F.1 F.2.1 dX1_formula_61 rfl (lv_at hl 1 rfl) ?_
        refine lv_iload_n F.1 F.2.1 dX1_formula_62 rfl (lv_at hl 0 rfl) ?_
        refine en_ixor F dX1_formula_63 ?_
        refine ret _ _ _ _ _ _ rfl Z ?_ dX1_formula_64
        exact ⟨congrArg nI (by simp [m_F, ec_fm, c_1, c_2, c_3]), rfl⟩
    · skip
      refine lv_iload_n F.1 F.2.1 dX1_formula_47 rfl (lv_at hl 1 rfl) ?_
      refine lv_iload_n F.1 F.2.1 dX1_formula_48 rfl (lv_at hl 0 rfl) ?_
      refine en_ior F dX1_formula_49 ?_
      refine ret _ _ _ _ _ _ rfl Z ?_ dX1_formula_50
      exact ⟨congrArg nI (by simp [m_F, ec_fm, c_1, c_2]), rfl⟩
  · skip
    refine lv_iload_n F.1 F.2.1 dX1_formula_33 rfl (lv_at hl 1 rfl) ?_
    refine lv_iload_n F.1 F.2.1 dX1_formula_34 rfl (lv_at hl 0 rfl) ?_
    refine en_iand F dX1_formula_35 ?_
    refine ret _ _ _ _ _ _ rfl Z ?_ dX1_formula_36
    exact ⟨congrArg nI (by simp [m_F, ec_fm, c_1]), rfl⟩
set_option maxHeartbeats 4000000 in
theorem m_settle_m (l : Launch) (D : va_G) (G : ec_G) (h : Nat) (ad : Nat → Nat) (sz : Nat) (τ : MS) (hW : MWF τ) : ec_Mv l yX1_settle cX1_settle 3 1 D G (MW G h ad) h [] τ sz (fun τ' => τ' = m_settle τ) := by
  refine ec_walk_v RX1 (by decide) rfl (Nat.le_of_ble_eq_true rfl) ?_
  intro p e s m below meth c A args Q F hA ret Z ls hl
  have hl : lv_has ls 3 [(0, .ref h)] := hl
  refine lv_iconst (v := (nI 0)) F.1 F.2.1 dX1_settle_0 (by decide) ?_
  refine lv_istore_n (lv' := [(1, .int (nI 0)), (0, .ref h)]) F.1 F.2.1 dX1_settle_1 rfl hl (by decide) rfl (fun ls hl => ?_)
  refine ec_lp_run (S := ec_A) (fun _ z => ec_rd (mkd τ) (ma τ) (mb τ) (ec_VF (mop τ)) z) (fun i z => ∀ q, q < 12 → z q < 16) (fun i z => ∀ (H : Heap) (locs : List Loc), ec_Z D G A s (MW G h ad (msVl τ z)) H locs → ∀ ls : Array Slot, lv_has ls 3 [(1, .int (nI i)), (0, .ref h)] → W p l e (ec_rm 1) s m args below meth c H locs 0 0 Q (F0 m 2 ls [])) 12 (fun _ _ _ h => ec_rd_lt ec_VF_lt hW.2.2.1 hW.2.2.2.1 h) ?_ 12 0 (mvl τ) (Nat.zero_add _) hW.2.2.2.2.2 ?_ _ _ Z ls (lv_sub hl [0, 1] rfl)
  · intro i z hi_i hz_i kk_i H locs Z ls hl
    refine lv_iload_n F.1 F.2.1 dX1_settle_2 rfl (lv_at hl 0 rfl) ?_
    refine lv_bipush (v := (nI 12)) F.1 F.2.1 dX1_settle_3 (by decide) ?_
    refine en_icmp_ge (tgt := 49) F (Nat.lt_of_lt_of_le hi_i (by decide)) (by omega) dX1_settle_5 (by decide) (fun c_1 => ?_) (fun c_1 => ?_)
    · exact absurd hi_i (Nat.not_lt.mpr c_1)
    · skip
      refine lv_iconst (v := (nI 0)) F.1 F.2.1 dX1_settle_8 (by decide) ?_
      refine lv_istore_n (lv' := [(2, .int (nI 0)), (1, .int (nI i)), (0, .ref h)]) F.1 F.2.1 dX1_settle_9 rfl hl (by decide) rfl (fun ls hl => ?_)
      refine ec_lp_run (S := ec_A) (ec_st (mkd τ) (ma τ) (mb τ) (ec_VF (mop τ))) (fun j y => ∀ q, q < 12 → y q < 16) (fun j y => ∀ (H : Heap) (locs : List Loc), ec_Z D G A s (MW G h ad (msVl τ y)) H locs → ∀ ls : Array Slot, lv_has ls 3 [(2, .int (nI j)), (1, .int (nI i)), (0, .ref h)] → W p l e (ec_rm 1) s m args below meth c H locs 0 0 Q (F0 m 10 ls [])) 12 (fun _ _ hi h => ec_st_lt ec_VF_lt hW.2.2.1 hW.2.2.2.1 h _ hi) ?_ 12 0 z (Nat.zero_add _) hz_i ?_ _ _ Z ls (lv_sub hl [0, 1, 2] rfl)
      · intro j y hi_j hz_j kk_j H locs Z ls hl
        refine lv_iload_n F.1 F.2.1 dX1_settle_10 rfl (lv_at hl 0 rfl) ?_
        refine lv_bipush (v := (nI 12)) F.1 F.2.1 dX1_settle_11 (by decide) ?_
        refine en_icmp_ge (tgt := 43) F (Nat.lt_of_lt_of_le hi_j (by decide)) (by omega) dX1_settle_13 (by decide) (fun c_2 => ?_) (fun c_2 => ?_)
        · exact absurd hi_j (Nat.not_lt.mpr c_2)
        · skip
          refine lv_aload_n F.1 F.2.1 dX1_settle_16 rfl (lv_at hl 2 rfl) ?_
          refine em_get F Z 0 (by decide) rfl rfl q163 dX1_settle_17 ?_
          refine lv_iload_n F.1 F.2.1 dX1_settle_20 rfl (lv_at hl 0 rfl) ?_
          refine en_iald F Z 1 (mkd τ) rfl hi_j dX1_settle_21 ?_
          refine lv_iconst (v := (nI 1)) F.1 F.2.1 dX1_settle_22 (by decide) ?_
          refine en_icmp_ne (tgt := 37) F (Nat.lt_of_lt_of_le (hW.1 _ hi_j) (by decide)) (by omega) dX1_settle_23 (by decide) (fun c_3 => ?_) (fun c_3 => ?_)
          · skip
            refine en_iinc (lv' := [(2, .int (nI (j + 1))), (1, .int (nI i)), (0, .ref h)]) F dX1_settle_37 hl (k := 0) rfl (by decide) rfl (fun ls hl => ?_)
            refine lv_goto (tgt := 10) F.1 F.2.1 dX1_settle_40 (by decide) ?_
            have ez : (ec_st (mkd τ) (ma τ) (mb τ) (ec_VF (mop τ))) j y = y := by exact if_neg c_3
            rw [ez] at kk_j
            exact kk_j _ _ Z ls (lv_sub hl [0, 1, 2] rfl)
          · skip
            refine lv_aload_n F.1 F.2.1 dX1_settle_26 rfl (lv_at hl 2 rfl) ?_
            refine em_get F Z 5 (by decide) rfl rfl q168 dX1_settle_27 ?_
            refine lv_iload_n F.1 F.2.1 dX1_settle_30 rfl (lv_at hl 0 rfl) ?_
            refine lv_aload_n F.1 F.2.1 dX1_settle_31 rfl (lv_at hl 2 rfl) ?_
            refine lv_iload_n F.1 F.2.1 dX1_settle_32 rfl (lv_at hl 0 rfl) ?_
            refine ec_calli (Wf := MW G h ad) (σ := msVl τ y) (rest := [.int (nI j), .ref (ad 5)]) F Z hA (m_formula_m l D G h ad _ (msVl τ y) j hi_j (mwf_vl hW hz_j)) (cwV 1 F.2.2.2.2 (lw_V q216 q218 qs19 q24 q219) rfl rfl rfl (by decide +kernel) ⟨Nat.le_of_ble_eq_true rfl, Nat.le_of_ble_eq_true rfl⟩) (em_recv Z) rfl hl.1 rfl (Nat.le_of_ble_eq_true rfl) dX1_settle_33 ⟨Nat.le_of_ble_eq_true rfl, Nat.le_of_ble_eq_true rfl⟩ (fun r σ1 H locs hp Z => ?_)
            have hp1 : r = nI (ec_fm (mop τ j) (y (ma τ j)) (y (mb τ j))) := hp.1
            have hp2 : σ1 = msVl τ y := hp.2
            rw [hp1]
            rw [hp2] at Z
            refine en_iast (ws' := MW G h ad (msVl τ (ec_up y j (ec_fm (mop τ j) (y (ma τ j)) (y (mb τ j)))))) F Z 6 y rfl hi_j rfl dX1_settle_36 (fun H locs Z => ?_)
            refine en_iinc (lv' := [(2, .int (nI (j + 1))), (1, .int (nI i)), (0, .ref h)]) F dX1_settle_37 hl (k := 0) rfl (by decide) rfl (fun ls hl => ?_)
            refine lv_goto (tgt := 10) F.1 F.2.1 dX1_settle_40 (by decide) ?_
            have ez : (ec_st (mkd τ) (ma τ) (mb τ) (ec_VF (mop τ))) j y = ec_up y j (ec_fm (mop τ j) (y (ma τ j)) (y (mb τ j))) := by exact if_pos c_3
            rw [ez] at kk_j
            exact kk_j _ _ Z ls (lv_sub hl [0, 1, 2] rfl)
      · intro H locs Z ls hl
        refine lv_iload_n F.1 F.2.1 dX1_settle_10 rfl (lv_at hl 0 rfl) ?_
        refine lv_bipush (v := (nI 12)) F.1 F.2.1 dX1_settle_11 (by decide) ?_
        refine en_icmp_ge (tgt := 43) F (by omega) (by omega) dX1_settle_13 (by decide) (fun c_4 => ?_) (fun c_4 => ?_)
        · skip
          refine en_iinc (lv' := [(1, .int (nI (i + 1))), (2, .int (nI 12)), (0, .ref h)]) F dX1_settle_43 hl (k := 1) rfl (by decide) rfl (fun ls hl => ?_)
          refine lv_goto (tgt := 2) F.1 F.2.1 dX1_settle_46 (by decide) ?_
          exact kk_i _ _ Z ls (lv_sub hl [0, 2] rfl)
        · exact absurd c_4 (by decide)
  · intro H locs Z ls hl
    refine lv_iload_n F.1 F.2.1 dX1_settle_2 rfl (lv_at hl 0 rfl) ?_
    refine lv_bipush (v := (nI 12)) F.1 F.2.1 dX1_settle_3 (by decide) ?_
    refine en_icmp_ge (tgt := 49) F (by omega) (by omega) dX1_settle_5 (by decide) (fun c_5 => ?_) (fun c_5 => ?_)
    · skip
      refine ret _ _ _ _ _ Z ?_ dX1_settle_49
      exact rfl
    · exact absurd c_5 (by decide)
set_option maxHeartbeats 4000000 in
theorem m_find_m (l : Launch) (D : va_G) (G : ec_G) (h : Nat) (ad : Nat → Nat) (sz : Nat) (τ : MS) (hW : MWF τ) : ec_Mv l yX1_findHanging cX1_findHanging 4 0 D G (MW G h ad) h [] τ sz (fun τ' => τ' = m_find τ) := by
  refine ec_walk_v RX1 (by decide) rfl (Nat.le_of_ble_eq_true rfl) ?_
  intro p e s m below meth c A args Q F hA ret Z ls hl
  have hl : lv_has ls 4 [(0, .ref h)] := hl
  refine lv_iconst (v := (nI 0)) F.1 F.2.1 dX1_findHanging_0 (by decide) ?_
  refine lv_istore_n (lv' := [(1, .int (nI 0)), (0, .ref h)]) F.1 F.2.1 dX1_findHanging_1 rfl hl (by decide) rfl (fun ls hl => ?_)
  refine ec_lp_run (S := ec_A) (ec_f0 (mkd τ) (ma τ) (mb τ)) (fun i z => True) (fun i z => ∀ (H : Heap) (locs : List Loc), ec_Z D G A s (MW G h ad (msOn τ z)) H locs → ∀ ls : Array Slot, lv_has ls 4 [(1, .int (nI i)), (0, .ref h)] → W p l e (ec_rm 0) s m args below meth c H locs 0 0 Q (F0 m 2 ls [])) 12 (fun _ _ _ _ => trivial) ?_ 12 0 (mon τ) (Nat.zero_add _) trivial ?_ _ _ Z ls (lv_sub hl [0, 1] rfl)
  · intro i z hi_i hz_i kk_i H locs Z ls hl
    refine lv_iload_n F.1 F.2.1 dX1_findHanging_2 rfl (lv_at hl 0 rfl) ?_
    refine lv_bipush (v := (nI 12)) F.1 F.2.1 dX1_findHanging_3 (by decide) ?_
    refine en_icmp_ge (tgt := 51) F (Nat.lt_of_lt_of_le hi_i (by decide)) (by omega) dX1_findHanging_5 (by decide) (fun c_1 => ?_) (fun c_1 => ?_)
    · exact absurd hi_i (Nat.not_lt.mpr c_1)
    · skip
      refine lv_aload_n F.1 F.2.1 dX1_findHanging_8 rfl (lv_at hl 1 rfl) ?_
      refine em_get F Z 7 (by decide) rfl rfl q170 dX1_findHanging_9 ?_
      refine lv_iload_n F.1 F.2.1 dX1_findHanging_12 rfl (lv_at hl 0 rfl) ?_
      refine lv_aload_n F.1 F.2.1 dX1_findHanging_13 rfl (lv_at hl 1 rfl) ?_
      refine em_get F Z 0 (by decide) rfl rfl q163 dX1_findHanging_14 ?_
      refine lv_iload_n F.1 F.2.1 dX1_findHanging_17 rfl (lv_at hl 0 rfl) ?_
      refine en_iald F Z 1 (mkd τ) rfl hi_i dX1_findHanging_18 ?_
      refine lv_iconst (v := (nI 1)) F.1 F.2.1 dX1_findHanging_19 (by decide) ?_
      refine en_icmp_ne (tgt := 43) F (Nat.lt_of_lt_of_le (hW.1 _ hi_i) (by decide)) (by omega) dX1_findHanging_20 (by decide) (fun c_2 => ?_) (fun c_2 => ?_)
      · skip
        refine lv_iconst (v := (nI 0)) F.1 F.2.1 dX1_findHanging_43 (by decide) ?_
        refine en_iast (ws' := MW G h ad (msOn τ (ec_up z i 0))) F Z 8 z rfl hi_i rfl dX1_findHanging_44 (fun H locs Z => ?_)
        refine en_iinc (lv' := [(1, .int (nI (i + 1))), (0, .ref h)]) F dX1_findHanging_45 hl (k := 0) rfl (by decide) rfl (fun ls hl => ?_)
        refine lv_goto (tgt := 2) F.1 F.2.1 dX1_findHanging_48 (by decide) ?_
        have ez : (ec_f0 (mkd τ) (ma τ) (mb τ)) i z = ec_up z i 0 := by simp [ec_f0, c_2]
        rw [ez] at kk_i
        exact kk_i _ _ Z ls (lv_sub hl [0, 1] rfl)
      · skip
        refine lv_iconst (v := (nI 1)) F.1 F.2.1 dX1_findHanging_23 (by decide) ?_
        refine lv_aload_n F.1 F.2.1 dX1_findHanging_24 rfl (lv_at hl 1 rfl) ?_
        refine em_get F Z 2 (by decide) rfl rfl q165 dX1_findHanging_25 ?_
        refine lv_iload_n F.1 F.2.1 dX1_findHanging_28 rfl (lv_at hl 0 rfl) ?_
        refine en_iald F Z 3 (ma τ) rfl hi_i dX1_findHanging_29 ?_
        refine en_ishl F (Nat.lt_of_lt_of_le (hW.2.2.1 _ hi_i) (by decide)) dX1_findHanging_30 ?_
        refine lv_iconst (v := (nI 1)) F.1 F.2.1 dX1_findHanging_31 (by decide) ?_
        refine lv_aload_n F.1 F.2.1 dX1_findHanging_32 rfl (lv_at hl 1 rfl) ?_
        refine em_get F Z 3 (by decide) rfl rfl q166 dX1_findHanging_33 ?_
        refine lv_iload_n F.1 F.2.1 dX1_findHanging_36 rfl (lv_at hl 0 rfl) ?_
        refine en_iald F Z 4 (mb τ) rfl hi_i dX1_findHanging_37 ?_
        refine en_ishl F (Nat.lt_of_lt_of_le (hW.2.2.2.1 _ hi_i) (by decide)) dX1_findHanging_38 ?_
        refine en_ior F dX1_findHanging_39 ?_
        refine lv_goto (tgt := 44) F.1 F.2.1 dX1_findHanging_40 (by decide) ?_
        refine en_iast (ws' := MW G h ad (msOn τ (ec_up z i ((2 ^ (ma τ i)) ||| (2 ^ (mb τ i)))))) F Z 8 z rfl hi_i rfl dX1_findHanging_44 (fun H locs Z => ?_)
        refine en_iinc (lv' := [(1, .int (nI (i + 1))), (0, .ref h)]) F dX1_findHanging_45 hl (k := 0) rfl (by decide) rfl (fun ls hl => ?_)
        refine lv_goto (tgt := 2) F.1 F.2.1 dX1_findHanging_48 (by decide) ?_
        have ez : (ec_f0 (mkd τ) (ma τ) (mb τ)) i z = ec_up z i ((2 ^ (ma τ i)) ||| (2 ^ (mb τ i))) := by simp [ec_f0, c_2]
        rw [ez] at kk_i
        exact kk_i _ _ Z ls (lv_sub hl [0, 1] rfl)
  · intro H locs Z ls hl
    refine lv_iload_n F.1 F.2.1 dX1_findHanging_2 rfl (lv_at hl 0 rfl) ?_
    refine lv_bipush (v := (nI 12)) F.1 F.2.1 dX1_findHanging_3 (by decide) ?_
    refine en_icmp_ge (tgt := 51) F (by omega) (by omega) dX1_findHanging_5 (by decide) (fun c_3 => ?_) (fun c_3 => ?_)
    · skip
      refine lv_iconst (v := (nI 0)) F.1 F.2.1 dX1_findHanging_51 (by decide) ?_
      refine lv_istore_n (lv' := [(1, .int (nI 0)), (0, .ref h)]) F.1 F.2.1 dX1_findHanging_52 rfl hl (by decide) rfl (fun ls hl => ?_)
      refine ec_lp_run (S := ec_A) (fun _ on => ec_lp (fun s on => ec_lp (ec_f1 s) 12 0 on) 12 0 on) (fun i z => ∀ n, n < 12 → z n < 4096) (fun i z => ∀ (H : Heap) (locs : List Loc), ec_Z D G A s (MW G h ad (msOn τ z)) H locs → ∀ ls : Array Slot, lv_has ls 4 [(1, .int (nI i)), (0, .ref h)] → W p l e (ec_rm 0) s m args below meth c H locs 0 0 Q (F0 m 53 ls [])) 12 (fun _ _ _ h => ec_f1_lp2 h) ?_ 12 0 (ec_lp (ec_f0 (mkd τ) (ma τ) (mb τ)) 12 0 (mon τ)) (Nat.zero_add _) (ec_f0_lp hW.2.2.1 hW.2.2.2.1) ?_ _ _ Z ls (lv_sub hl [0, 1] rfl)
      · intro i z hi_i hz_i kk_i H locs Z ls hl
        refine lv_iload_n F.1 F.2.1 dX1_findHanging_53 rfl (lv_at hl 0 rfl) ?_
        refine lv_bipush (v := (nI 12)) F.1 F.2.1 dX1_findHanging_54 (by decide) ?_
        refine en_icmp_ge (tgt := 126) F (Nat.lt_of_lt_of_le hi_i (by decide)) (by omega) dX1_findHanging_56 (by decide) (fun c_4 => ?_) (fun c_4 => ?_)
        · exact absurd hi_i (Nat.not_lt.mpr c_4)
        · skip
          refine lv_iconst (v := (nI 0)) F.1 F.2.1 dX1_findHanging_59 (by decide) ?_
          refine lv_istore_n (lv' := [(2, .int (nI 0)), (1, .int (nI i)), (0, .ref h)]) F.1 F.2.1 dX1_findHanging_60 rfl hl (by decide) rfl (fun ls hl => ?_)
          refine ec_lp_run (S := ec_A) (fun s on => ec_lp (ec_f1 s) 12 0 on) (fun j y => ∀ n, n < 12 → y n < 4096) (fun j y => ∀ (H : Heap) (locs : List Loc), ec_Z D G A s (MW G h ad (msOn τ y)) H locs → ∀ ls : Array Slot, lv_has ls 4 [(2, .int (nI j)), (1, .int (nI i)), (0, .ref h)] → W p l e (ec_rm 0) s m args below meth c H locs 0 0 Q (F0 m 61 ls [])) 12 (fun _ _ hi h => ec_f1_lp h hi) ?_ 12 0 z (Nat.zero_add _) hz_i ?_ _ _ Z ls (lv_sub hl [0, 1, 2] rfl)
          · intro j y hi_j hz_j kk_j H locs Z ls hl
            refine lv_iload_n F.1 F.2.1 dX1_findHanging_61 rfl (lv_at hl 0 rfl) ?_
            refine lv_bipush (v := (nI 12)) F.1 F.2.1 dX1_findHanging_62 (by decide) ?_
            refine en_icmp_ge (tgt := 120) F (Nat.lt_of_lt_of_le hi_j (by decide)) (by omega) dX1_findHanging_64 (by decide) (fun c_5 => ?_) (fun c_5 => ?_)
            · exact absurd hi_j (Nat.not_lt.mpr c_5)
            · skip
              refine lv_iconst (v := (nI 0)) F.1 F.2.1 dX1_findHanging_67 (by decide) ?_
              refine lv_istore_n (lv' := [(3, .int (nI 0)), (2, .int (nI j)), (1, .int (nI i)), (0, .ref h)]) F.1 F.2.1 dX1_findHanging_68 rfl hl (by decide) rfl (fun ls hl => ?_)
              refine ec_lp_run (S := ec_A) (ec_f1 j) (fun q x => ∀ n, n < 12 → x n < 4096) (fun q x => ∀ (H : Heap) (locs : List Loc), ec_Z D G A s (MW G h ad (msOn τ x)) H locs → ∀ ls : Array Slot, lv_has ls 4 [(3, .int (nI q)), (2, .int (nI j)), (1, .int (nI i)), (0, .ref h)] → W p l e (ec_rm 0) s m args below meth c H locs 0 0 Q (F0 m 69 ls [])) 12 (fun _ _ hi h => ec_f1_lt h hi_j hi) ?_ 12 0 y (Nat.zero_add _) hz_j ?_ _ _ Z ls (lv_sub hl [0, 1, 2, 3] rfl)
              · intro q x hi_q hz_q kk_q H locs Z ls hl
                refine lv_iload_n F.1 F.2.1 dX1_findHanging_69 rfl (lv_at hl 0 rfl) ?_
                refine lv_bipush (v := (nI 12)) F.1 F.2.1 dX1_findHanging_70 (by decide) ?_
                refine en_icmp_ge (tgt := 114) F (Nat.lt_of_lt_of_le hi_q (by decide)) (by omega) dX1_findHanging_72 (by decide) (fun c_6 => ?_) (fun c_6 => ?_)
                · exact absurd hi_q (Nat.not_lt.mpr c_6)
                · skip
                  refine lv_aload_n F.1 F.2.1 dX1_findHanging_75 rfl (lv_at hl 3 rfl) ?_
                  refine em_get F Z 7 (by decide) rfl rfl q170 dX1_findHanging_76 ?_
                  refine lv_iload_n F.1 F.2.1 dX1_findHanging_79 rfl (lv_at hl 1 rfl) ?_
                  refine en_iald F Z 8 x rfl hi_j dX1_findHanging_80 ?_
                  refine lv_iload_n F.1 F.2.1 dX1_findHanging_81 rfl (lv_at hl 0 rfl) ?_
                  refine en_ishr F (Nat.lt_of_lt_of_le (hz_q _ hi_j) (by decide)) (Nat.lt_of_lt_of_le hi_q (by decide)) dX1_findHanging_82 ?_
                  refine lv_iconst (v := (nI 1)) F.1 F.2.1 dX1_findHanging_83 (by decide) ?_
                  refine en_iand1 F dX1_findHanging_84 ?_
                  refine lv_iconst (v := (nI 1)) F.1 F.2.1 dX1_findHanging_85 (by decide) ?_
                  refine en_icmpb_ne (tgt := 108) F dX1_findHanging_86 (by decide) (fun c_7 => ?_) (fun c_7 => ?_)
                  · skip
                    refine en_iinc (lv' := [(3, .int (nI (q + 1))), (2, .int (nI j)), (1, .int (nI i)), (0, .ref h)]) F dX1_findHanging_108 hl (k := 0) rfl (by decide) rfl (fun ls hl => ?_)
                    refine lv_goto (tgt := 69) F.1 F.2.1 dX1_findHanging_111 (by decide) ?_
                    have ez : (ec_f1 j) q x = x := by simp [ec_f1, c_7]
                    rw [ez] at kk_q
                    exact kk_q _ _ Z ls (lv_sub hl [0, 1, 2, 3] rfl)
                  · skip
                    refine lv_aload_n F.1 F.2.1 dX1_findHanging_89 rfl (lv_at hl 3 rfl) ?_
                    refine em_get F Z 7 (by decide) rfl rfl q170 dX1_findHanging_90 ?_
                    refine lv_iload_n F.1 F.2.1 dX1_findHanging_93 rfl (lv_at hl 1 rfl) ?_
                    refine lv_aload_n F.1 F.2.1 dX1_findHanging_94 rfl (lv_at hl 3 rfl) ?_
                    refine em_get F Z 7 (by decide) rfl rfl q170 dX1_findHanging_95 ?_
                    refine lv_iload_n F.1 F.2.1 dX1_findHanging_98 rfl (lv_at hl 1 rfl) ?_
                    refine en_iald F Z 8 x rfl hi_j dX1_findHanging_99 ?_
                    refine lv_aload_n F.1 F.2.1 dX1_findHanging_100 rfl (lv_at hl 3 rfl) ?_
                    refine em_get F Z 7 (by decide) rfl rfl q170 dX1_findHanging_101 ?_
                    refine lv_iload_n F.1 F.2.1 dX1_findHanging_104 rfl (lv_at hl 0 rfl) ?_
                    refine en_iald F Z 8 x rfl hi_q dX1_findHanging_105 ?_
                    refine en_ior F dX1_findHanging_106 ?_
                    refine en_iast (ws' := MW G h ad (msOn τ (ec_up x j ((x j) ||| (x q))))) F Z 8 x rfl hi_j rfl dX1_findHanging_107 (fun H locs Z => ?_)
                    refine en_iinc (lv' := [(3, .int (nI (q + 1))), (2, .int (nI j)), (1, .int (nI i)), (0, .ref h)]) F dX1_findHanging_108 hl (k := 0) rfl (by decide) rfl (fun ls hl => ?_)
                    refine lv_goto (tgt := 69) F.1 F.2.1 dX1_findHanging_111 (by decide) ?_
                    have ez : (ec_f1 j) q x = ec_up x j ((x j) ||| (x q)) := by simp [ec_f1, c_7]
                    rw [ez] at kk_q
                    exact kk_q _ _ Z ls (lv_sub hl [0, 1, 2, 3] rfl)
              · intro H locs Z ls hl
                refine lv_iload_n F.1 F.2.1 dX1_findHanging_69 rfl (lv_at hl 0 rfl) ?_
                refine lv_bipush (v := (nI 12)) F.1 F.2.1 dX1_findHanging_70 (by decide) ?_
                refine en_icmp_ge (tgt := 114) F (by omega) (by omega) dX1_findHanging_72 (by decide) (fun c_8 => ?_) (fun c_8 => ?_)
                · skip
                  refine en_iinc (lv' := [(2, .int (nI (j + 1))), (3, .int (nI 12)), (1, .int (nI i)), (0, .ref h)]) F dX1_findHanging_114 hl (k := 1) rfl (by decide) rfl (fun ls hl => ?_)
                  refine lv_goto (tgt := 61) F.1 F.2.1 dX1_findHanging_117 (by decide) ?_
                  exact kk_j _ _ Z ls (lv_sub hl [0, 2, 3] rfl)
                · exact absurd c_8 (by decide)
          · intro H locs Z ls hl
            refine lv_iload_n F.1 F.2.1 dX1_findHanging_61 rfl (lv_at hl 0 rfl) ?_
            refine lv_bipush (v := (nI 12)) F.1 F.2.1 dX1_findHanging_62 (by decide) ?_
            refine en_icmp_ge (tgt := 120) F (by omega) (by omega) dX1_findHanging_64 (by decide) (fun c_9 => ?_) (fun c_9 => ?_)
            · skip
              refine en_iinc (lv' := [(1, .int (nI (i + 1))), (2, .int (nI 12)), (0, .ref h)]) F dX1_findHanging_120 hl (k := 1) rfl (by decide) rfl (fun ls hl => ?_)
              refine lv_goto (tgt := 53) F.1 F.2.1 dX1_findHanging_123 (by decide) ?_
              exact kk_i _ _ Z ls (lv_sub hl [0, 2] rfl)
            · exact absurd c_9 (by decide)
      · intro H locs Z ls hl
        refine lv_iload_n F.1 F.2.1 dX1_findHanging_53 rfl (lv_at hl 0 rfl) ?_
        refine lv_bipush (v := (nI 12)) F.1 F.2.1 dX1_findHanging_54 (by decide) ?_
        refine en_icmp_ge (tgt := 126) F (by omega) (by omega) dX1_findHanging_56 (by decide) (fun c_10 => ?_) (fun c_10 => ?_)
        · skip
          refine ret _ _ _ _ _ Z ?_ dX1_findHanging_126
          exact rfl
        · exact absurd c_10 (by decide)
    · exact absurd c_3 (by decide)
set_option maxHeartbeats 4000000 in
theorem m_circle_m (l : Launch) (D : va_G) (G : ec_G) (h : Nat) (ad : Nat → Nat) (sz : Nat) (τ : MS) (hW : MWF τ) : ec_Mi l yX1_hasCircle cX1_hasCircle 2 (some .boolean) 1 D G (MW G h ad) h [] τ sz (fun r τ' => r = nI (ec_cir (mon (m_find τ)) 12 0).toNat ∧ τ' = m_find τ) := by
  refine ec_walk_i RX1 (by decide) rfl (Nat.le_of_ble_eq_true rfl) ?_
  intro p e s m below meth c A args Q F hA ret Z ls hl
  have hl : lv_has ls 2 [(0, .ref h)] := hl
  refine lv_aload_n F.1 F.2.1 dX1_hasCircle_0 rfl (lv_at hl 0 rfl) ?_
  refine ec_callv (Wf := MW G h ad) (σ := τ) (rest := []) F Z hA (m_find_m l D G h ad _ τ hW) (cwV 0 F.2.2.2.2 (lw_V q208 q210 qs17 q24 q211) rfl rfl rfl (by decide +kernel) ⟨Nat.le_of_ble_eq_true rfl, Nat.le_of_ble_eq_true rfl⟩) (em_recv Z) rfl hl.1 rfl (Nat.le_of_ble_eq_true rfl) dX1_hasCircle_1 ⟨Nat.le_of_ble_eq_true rfl, Nat.le_of_ble_eq_true rfl⟩ (fun σ1 H locs hp Z => ?_)
  have hp : σ1 = m_find τ := hp
  rw [hp] at Z
  refine lv_iconst (v := (nI 0)) F.1 F.2.1 dX1_hasCircle_4 (by decide) ?_
  refine lv_istore_n (lv' := [(1, .int (nI 0)), (0, .ref h)]) F.1 F.2.1 dX1_hasCircle_5 rfl hl (by decide) rfl (fun ls hl => ?_)
  refine ec_down 12 (fun n i => ec_cir (mon (m_find τ)) n i = ec_cir (mon (m_find τ)) 12 0 → ∀ (H : Heap) (locs : List Loc), ec_Z D G A s (MW G h ad (m_find τ)) H locs → ∀ ls : Array Slot, lv_has ls 2 [(1, .int (nI i)), (0, .ref h)] → W p l e (ec_rm 1) s m args below meth c H locs 0 0 Q (F0 m 6 ls [])) ?_ ?_ 12 0 (by decide) rfl _ _ Z ls (lv_sub hl [0, 1] rfl)
  · intro he H locs Z ls hl
    refine lv_iload_n F.1 F.2.1 dX1_hasCircle_6 rfl (lv_at hl 0 rfl) ?_
    refine lv_bipush (v := (nI 12)) F.1 F.2.1 dX1_hasCircle_7 (by decide) ?_
    refine en_icmp_ge (tgt := 34) F (by omega) (by omega) dX1_hasCircle_9 (by decide) (fun c_1 => ?_) (fun c_1 => ?_)
    · skip
      refine lv_iconst (v := (nI 0)) F.1 F.2.1 dX1_hasCircle_34 (by decide) ?_
      refine ret _ _ _ _ _ _ rfl Z ?_ dX1_hasCircle_35
      exact ⟨by rw [← he]; rfl, rfl⟩
    · exact absurd c_1 (by decide)
  · intro n i hin kk he H locs Z ls hl
    have hi : i < 12 := by omega
    refine lv_iload_n F.1 F.2.1 dX1_hasCircle_6 rfl (lv_at hl 0 rfl) ?_
    refine lv_bipush (v := (nI 12)) F.1 F.2.1 dX1_hasCircle_7 (by decide) ?_
    refine en_icmp_ge (tgt := 34) F (Nat.lt_of_lt_of_le hi (by decide)) (by omega) dX1_hasCircle_9 (by decide) (fun c_2 => ?_) (fun c_2 => ?_)
    · exact absurd hi (Nat.not_lt.mpr c_2)
    · skip
      refine lv_aload_n F.1 F.2.1 dX1_hasCircle_12 rfl (lv_at hl 1 rfl) ?_
      refine em_get F Z 7 (by decide) rfl rfl q170 dX1_hasCircle_13 ?_
      refine lv_iload_n F.1 F.2.1 dX1_hasCircle_16 rfl (lv_at hl 0 rfl) ?_
      refine en_iald F Z 8 (mon (m_find τ)) rfl hi dX1_hasCircle_17 ?_
      refine lv_iload_n F.1 F.2.1 dX1_hasCircle_18 rfl (lv_at hl 0 rfl) ?_
      refine en_ishr F (Nat.lt_of_lt_of_le ((m_find_lt hW) _ hi) (by decide)) (Nat.lt_of_lt_of_le hi (by decide)) dX1_hasCircle_19 ?_
      refine lv_iconst (v := (nI 1)) F.1 F.2.1 dX1_hasCircle_20 (by decide) ?_
      refine en_iand1 F dX1_hasCircle_21 ?_
      refine lv_iconst (v := (nI 1)) F.1 F.2.1 dX1_hasCircle_22 (by decide) ?_
      refine en_icmpb_ne (tgt := 28) F dX1_hasCircle_23 (by decide) (fun c_3 => ?_) (fun c_3 => ?_)
      · skip
        refine en_iinc (lv' := [(1, .int (nI (i + 1))), (0, .ref h)]) F dX1_hasCircle_28 hl (k := 0) rfl (by decide) rfl (fun ls hl => ?_)
        refine lv_goto (tgt := 6) F.1 F.2.1 dX1_hasCircle_31 (by decide) ?_
        exact kk (by rw [← he]; simp [ec_cir, c_3]) _ _ Z ls (lv_sub hl [0, 1] rfl)
      · skip
        refine lv_iconst (v := (nI 1)) F.1 F.2.1 dX1_hasCircle_26 (by decide) ?_
        refine ret _ _ _ _ _ _ rfl Z ?_ dX1_hasCircle_27
        exact ⟨by rw [← he]; simp [ec_cir, c_3], rfl⟩
set_option maxHeartbeats 4000000 in
theorem m_give_m (l : Launch) (D : va_G) (G : ec_G) (h : Nat) (ad : Nat → Nat) (sz : Nat) (τ : MS) (k w o a b : Nat) (hk : k < 12) : ec_Mv l yX1_give cX1_give 6 0 D G (MW G h ad) h [.int (nI k), .int (nI w), .int (nI o), .int (nI a), .int (nI b)] τ sz (fun τ' => τ' = m_give τ k w o a b) := by
  refine ec_walk_v RX1 (by decide) rfl (Nat.le_of_ble_eq_true rfl) ?_
  intro p e s m below meth c A args Q F hA ret Z ls hl
  have hl : lv_has ls 6 [(0, .ref h), (1, .int (nI k)), (2, .int (nI w)), (3, .int (nI o)), (4, .int (nI a)), (5, .int (nI b))] := hl
  refine lv_aload_n F.1 F.2.1 dX1_give_0 rfl (lv_at hl 0 rfl) ?_
  refine em_get F Z 0 (by decide) rfl rfl q163 dX1_give_1 ?_
  refine lv_iload_n F.1 F.2.1 dX1_give_4 rfl (lv_at hl 1 rfl) ?_
  refine lv_iload_n F.1 F.2.1 dX1_give_5 rfl (lv_at hl 2 rfl) ?_
  refine en_iast (ws' := MW G h ad (msG τ (ec_up (mkd τ) k w) (mop τ) (ma τ) (mb τ))) F Z 1 (mkd τ) rfl hk rfl dX1_give_6 (fun H locs Z => ?_)
  refine lv_aload_n F.1 F.2.1 dX1_give_7 rfl (lv_at hl 0 rfl) ?_
  refine em_get F Z 1 (by decide) rfl rfl q164 dX1_give_8 ?_
  refine lv_iload_n F.1 F.2.1 dX1_give_11 rfl (lv_at hl 1 rfl) ?_
  refine lv_iload_n F.1 F.2.1 dX1_give_12 rfl (lv_at hl 3 rfl) ?_
  refine en_iast (ws' := MW G h ad (msG τ (ec_up (mkd τ) k w) (ec_up (mop τ) k o) (ma τ) (mb τ))) F Z 2 (mop τ) rfl hk rfl dX1_give_13 (fun H locs Z => ?_)
  refine lv_aload_n F.1 F.2.1 dX1_give_14 rfl (lv_at hl 0 rfl) ?_
  refine em_get F Z 2 (by decide) rfl rfl q165 dX1_give_15 ?_
  refine lv_iload_n F.1 F.2.1 dX1_give_18 rfl (lv_at hl 1 rfl) ?_
  refine lv_iload F.1 F.2.1 dX1_give_19 (lv_at hl 4 rfl) ?_
  refine en_iast (ws' := MW G h ad (msG τ (ec_up (mkd τ) k w) (ec_up (mop τ) k o) (ec_up (ma τ) k a) (mb τ))) F Z 3 (ma τ) rfl hk rfl dX1_give_21 (fun H locs Z => ?_)
  refine lv_aload_n F.1 F.2.1 dX1_give_22 rfl (lv_at hl 0 rfl) ?_
  refine em_get F Z 3 (by decide) rfl rfl q166 dX1_give_23 ?_
  refine lv_iload_n F.1 F.2.1 dX1_give_26 rfl (lv_at hl 1 rfl) ?_
  refine lv_iload F.1 F.2.1 dX1_give_27 (lv_at hl 5 rfl) ?_
  refine en_iast (ws' := MW G h ad (msG τ (ec_up (mkd τ) k w) (ec_up (mop τ) k o) (ec_up (ma τ) k a) (ec_up (mb τ) k b))) F Z 4 (mb τ) rfl hk rfl dX1_give_29 (fun H locs Z => ?_)
  refine ret _ _ _ _ _ Z ?_ dX1_give_30
  exact rfl
set_option maxHeartbeats 4000000 in
theorem m_depth_m (l : Launch) (D : va_G) (G : ec_G) (h : Nat) (ad : Nat → Nat) (sz : Nat) (τ : MS) (hW : MWF τ) (rk : ec_A) (hac : ec_Ac (mkd τ) (ma τ) (mb τ) rk) : ec_Mi l yX1_depth cX1_depth 5 (some .int) 0 D G (MW G h ad) h [] τ sz (fun r τ' => r = nI (m_dp τ).1 ∧ τ' = m_depth τ) := by
  refine ec_walk_i RX1 (by decide) rfl (Nat.le_of_ble_eq_true rfl) ?_
  intro p e s m below meth c A args Q F hA ret Z ls hl
  have hl : lv_has ls 5 [(0, .ref h)] := hl
  refine lv_iconst (v := (nI 0)) F.1 F.2.1 dX1_depth_0 (by decide) ?_
  refine lv_istore_n (lv' := [(1, .int (nI 0)), (0, .ref h)]) F.1 F.2.1 dX1_depth_1 rfl hl (by decide) rfl (fun ls hl => ?_)
  refine lv_iconst (v := (nI 0)) F.1 F.2.1 dX1_depth_2 (by decide) ?_
  refine lv_istore_n (lv' := [(2, .int (nI 0)), (1, .int (nI 0)), (0, .ref h)]) F.1 F.2.1 dX1_depth_3 rfl hl (by decide) rfl (fun ls hl => ?_)
  refine ec_lp_run (S := ec_A) (ec_z0) (fun i z => True) (fun i z => ∀ (H : Heap) (locs : List Loc), ec_Z D G A s (MW G h ad (msOn τ z)) H locs → ∀ ls : Array Slot, lv_has ls 5 [(2, .int (nI i)), (1, .int (nI 0)), (0, .ref h)] → W p l e (ec_rm 0) s m args below meth c H locs 0 0 Q (F0 m 4 ls [])) 12 (fun _ _ _ _ => trivial) ?_ 12 0 (mon τ) (Nat.zero_add _) trivial ?_ _ _ Z ls (lv_sub hl [0, 1, 2] rfl)
  · intro i z hi_i hz_i kk_i H locs Z ls hl
    refine lv_iload_n F.1 F.2.1 dX1_depth_4 rfl (lv_at hl 0 rfl) ?_
    refine lv_bipush (v := (nI 12)) F.1 F.2.1 dX1_depth_5 (by decide) ?_
    refine en_icmp_ge (tgt := 23) F (Nat.lt_of_lt_of_le hi_i (by decide)) (by omega) dX1_depth_7 (by decide) (fun c_1 => ?_) (fun c_1 => ?_)
    · exact absurd hi_i (Nat.not_lt.mpr c_1)
    · skip
      refine lv_aload_n F.1 F.2.1 dX1_depth_10 rfl (lv_at hl 2 rfl) ?_
      refine em_get F Z 7 (by decide) rfl rfl q170 dX1_depth_11 ?_
      refine lv_iload_n F.1 F.2.1 dX1_depth_14 rfl (lv_at hl 0 rfl) ?_
      refine lv_iconst (v := (nI 0)) F.1 F.2.1 dX1_depth_15 (by decide) ?_
      refine en_iast (ws' := MW G h ad (msOn τ (ec_up z i 0))) F Z 8 z rfl hi_i rfl dX1_depth_16 (fun H locs Z => ?_)
      refine en_iinc (lv' := [(2, .int (nI (i + 1))), (1, .int (nI 0)), (0, .ref h)]) F dX1_depth_17 hl (k := 0) rfl (by decide) rfl (fun ls hl => ?_)
      refine lv_goto (tgt := 4) F.1 F.2.1 dX1_depth_20 (by decide) ?_
      exact kk_i _ _ Z ls (lv_sub hl [0, 1, 2] rfl)
  · intro H locs Z ls hl
    refine lv_iload_n F.1 F.2.1 dX1_depth_4 rfl (lv_at hl 0 rfl) ?_
    refine lv_bipush (v := (nI 12)) F.1 F.2.1 dX1_depth_5 (by decide) ?_
    refine en_icmp_ge (tgt := 23) F (by omega) (by omega) dX1_depth_7 (by decide) (fun c_2 => ?_) (fun c_2 => ?_)
    · skip
      refine lv_iconst (v := (nI 0)) F.1 F.2.1 dX1_depth_23 (by decide) ?_
      refine lv_istore_n (lv' := [(2, .int (nI 0)), (1, .int (nI 0)), (0, .ref h)]) F.1 F.2.1 dX1_depth_24 rfl hl (by decide) rfl (fun ls hl => ?_)
      refine ec_lp_run (S := Nat × ec_A) (fun _ z => ec_lp (ec_d1 (mkd τ) (ma τ) (mb τ)) 12 0 z) (fun i z => (∀ q, q < 12 → z.2 q ≤ rk q + 1) ∧ z.1 < 13) (fun i z => ∀ (H : Heap) (locs : List Loc), ec_Z D G A s (MW G h ad (msOn τ z.2)) H locs → ∀ ls : Array Slot, lv_has ls 5 [(2, .int (nI i)), (1, .int (nI z.1)), (0, .ref h)] → W p l e (ec_rm 0) s m args below meth c H locs 0 0 Q (F0 m 25 ls [])) 12 (fun _ _ _ h => ec_d1_lp hac hW.2.2.1 hW.2.2.2.1 h) ?_ 12 0 (0, ec_lp ec_z0 12 0 (mon τ)) (Nat.zero_add _) ⟨fun q hq => by show ec_lp ec_z0 12 0 (mon τ) q ≤ _; rw [ec_z0_0 (mon τ) q hq]; exact Nat.zero_le _, (show (0 : Nat) < 13 by decide)⟩ ?_ _ _ Z ls (lv_sub hl [0, 1, 2] rfl)
      · intro i z hi_i hz_i kk_i H locs Z ls hl
        refine lv_iload_n F.1 F.2.1 dX1_depth_25 rfl (lv_at hl 0 rfl) ?_
        refine lv_bipush (v := (nI 12)) F.1 F.2.1 dX1_depth_26 (by decide) ?_
        refine en_icmp_ge (tgt := 140) F (Nat.lt_of_lt_of_le hi_i (by decide)) (by omega) dX1_depth_28 (by decide) (fun c_3 => ?_) (fun c_3 => ?_)
        · exact absurd hi_i (Nat.not_lt.mpr c_3)
        · skip
          refine lv_iconst (v := (nI 0)) F.1 F.2.1 dX1_depth_31 (by decide) ?_
          refine lv_istore_n (lv' := [(3, .int (nI 0)), (2, .int (nI i)), (1, .int (nI z.1)), (0, .ref h)]) F.1 F.2.1 dX1_depth_32 rfl hl (by decide) rfl (fun ls hl => ?_)
          refine ec_lp_run (S := Nat × ec_A) (ec_d1 (mkd τ) (ma τ) (mb τ)) (fun j y => (∀ q, q < 12 → y.2 q ≤ rk q + 1) ∧ y.1 < 13) (fun j y => ∀ (H : Heap) (locs : List Loc), ec_Z D G A s (MW G h ad (msOn τ y.2)) H locs → ∀ ls : Array Slot, lv_has ls 5 [(3, .int (nI j)), (2, .int (nI i)), (1, .int (nI y.1)), (0, .ref h)] → W p l e (ec_rm 0) s m args below meth c H locs 0 0 Q (F0 m 33 ls [])) 12 (fun _ _ hi h => ec_d1_lt hac hW.2.2.1 hW.2.2.2.1 h _ hi) ?_ 12 0 z (Nat.zero_add _) hz_i ?_ _ _ Z ls (lv_sub hl [0, 1, 2, 3] rfl)
          · intro j y hi_j hz_j kk_j H locs Z ls hl
            refine lv_iload_n F.1 F.2.1 dX1_depth_33 rfl (lv_at hl 0 rfl) ?_
            refine lv_bipush (v := (nI 12)) F.1 F.2.1 dX1_depth_34 (by decide) ?_
            refine en_icmp_ge (tgt := 134) F (Nat.lt_of_lt_of_le hi_j (by decide)) (by omega) dX1_depth_36 (by decide) (fun c_4 => ?_) (fun c_4 => ?_)
            · exact absurd hi_j (Nat.not_lt.mpr c_4)
            · skip
              refine lv_aload_n F.1 F.2.1 dX1_depth_39 rfl (lv_at hl 3 rfl) ?_
              refine em_get F Z 7 (by decide) rfl rfl q170 dX1_depth_40 ?_
              refine lv_aload_n F.1 F.2.1 dX1_depth_43 rfl (lv_at hl 3 rfl) ?_
              refine em_get F Z 2 (by decide) rfl rfl q165 dX1_depth_44 ?_
              refine lv_iload_n F.1 F.2.1 dX1_depth_47 rfl (lv_at hl 0 rfl) ?_
              refine en_iald F Z 3 (ma τ) rfl hi_j dX1_depth_48 ?_
              refine en_iald F Z 8 y.2 rfl (hW.2.2.1 _ hi_j) dX1_depth_49 ?_
              refine lv_aload_n F.1 F.2.1 dX1_depth_50 rfl (lv_at hl 3 rfl) ?_
              refine em_get F Z 7 (by decide) rfl rfl q170 dX1_depth_51 ?_
              refine lv_aload_n F.1 F.2.1 dX1_depth_54 rfl (lv_at hl 3 rfl) ?_
              refine em_get F Z 3 (by decide) rfl rfl q166 dX1_depth_55 ?_
              refine lv_iload_n F.1 F.2.1 dX1_depth_58 rfl (lv_at hl 0 rfl) ?_
              refine en_iald F Z 4 (mb τ) rfl hi_j dX1_depth_59 ?_
              refine en_iald F Z 8 y.2 rfl (hW.2.2.2.1 _ hi_j) dX1_depth_60 ?_
              refine en_icmp_le (tgt := 78) F (Nat.lt_of_lt_of_le ((ec_lev13 hac hz_j.1) _ (hW.2.2.1 _ hi_j)) (by decide)) (Nat.lt_of_lt_of_le ((ec_lev13 hac hz_j.1) _ (hW.2.2.2.1 _ hi_j)) (by decide)) dX1_depth_61 (by decide) (fun c_5 => ?_) (fun c_5 => ?_)
              · skip
                refine lv_aload_n F.1 F.2.1 dX1_depth_78 rfl (lv_at hl 3 rfl) ?_
                refine em_get F Z 7 (by decide) rfl rfl q170 dX1_depth_79 ?_
                refine lv_aload_n F.1 F.2.1 dX1_depth_82 rfl (lv_at hl 3 rfl) ?_
                refine em_get F Z 3 (by decide) rfl rfl q166 dX1_depth_83 ?_
                refine lv_iload_n F.1 F.2.1 dX1_depth_86 rfl (lv_at hl 0 rfl) ?_
                refine en_iald F Z 4 (mb τ) rfl hi_j dX1_depth_87 ?_
                refine en_iald F Z 8 y.2 rfl (hW.2.2.2.1 _ hi_j) dX1_depth_88 ?_
                refine lv_istore (lv' := [(4, .int (nI (y.2 (mb τ j)))), (3, .int (nI j)), (2, .int (nI i)), (1, .int (nI y.1)), (0, .ref h)]) F.1 F.2.1 dX1_depth_89 hl (by decide) rfl (fun ls hl => ?_)
                refine lv_aload_n F.1 F.2.1 dX1_depth_91 rfl (lv_at hl 4 rfl) ?_
                refine em_get F Z 0 (by decide) rfl rfl q163 dX1_depth_92 ?_
                refine lv_iload_n F.1 F.2.1 dX1_depth_95 rfl (lv_at hl 1 rfl) ?_
                refine en_iald F Z 1 (mkd τ) rfl hi_j dX1_depth_96 ?_
                refine lv_iconst (v := (nI 1)) F.1 F.2.1 dX1_depth_97 (by decide) ?_
                refine en_icmp_ne (tgt := 111) F (Nat.lt_of_lt_of_le (hW.1 _ hi_j) (by decide)) (by omega) dX1_depth_98 (by decide) (fun c_6 => ?_) (fun c_6 => ?_)
                · skip
                  have est : ec_st (mkd τ) (ma τ) (mb τ) ec_LF j y.2 = y.2 := by simp [ec_st, ec_LF, ec_mx, c_6, Nat.not_lt.mpr c_5]
                  have h9 : ∀ q, q < 12 → (y.2) q < 13 := by rw [← est]; exact ec_lev13 hac (ec_lev_step hac hW.2.2.1 hW.2.2.2.1 hz_j.1 _ hi_j)
                  refine lv_aload_n F.1 F.2.1 dX1_depth_111 rfl (lv_at hl 4 rfl) ?_
                  refine em_get F Z 7 (by decide) rfl rfl q170 dX1_depth_112 ?_
                  refine lv_iload_n F.1 F.2.1 dX1_depth_115 rfl (lv_at hl 1 rfl) ?_
                  refine en_iald F Z 8 y.2 rfl hi_j dX1_depth_116 ?_
                  refine lv_iload_n F.1 F.2.1 dX1_depth_117 rfl (lv_at hl 3 rfl) ?_
                  refine en_icmp_le (tgt := 128) F (Nat.lt_of_lt_of_le (h9 _ hi_j) (by decide)) (Nat.lt_of_lt_of_le hz_j.2 (by decide)) dX1_depth_118 (by decide) (fun c_7 => ?_) (fun c_7 => ?_)
                  · skip
                    refine en_iinc (lv' := [(3, .int (nI (j + 1))), (4, .int (nI (y.2 (mb τ j)))), (2, .int (nI i)), (1, .int (nI y.1)), (0, .ref h)]) F dX1_depth_128 hl (k := 1) rfl (by decide) rfl (fun ls hl => ?_)
                    refine lv_goto (tgt := 33) F.1 F.2.1 dX1_depth_131 (by decide) ?_
                    have ez : (ec_d1 (mkd τ) (ma τ) (mb τ)) j y = (y.1, y.2) := by unfold ec_d1; rw [est, if_neg (Nat.not_lt.mpr c_7)]
                    rw [ez] at kk_j
                    exact kk_j _ _ Z ls (lv_sub hl [0, 2, 3, 4] rfl)
                  · skip
                    refine lv_aload_n F.1 F.2.1 dX1_depth_121 rfl (lv_at hl 4 rfl) ?_
                    refine em_get F Z 7 (by decide) rfl rfl q170 dX1_depth_122 ?_
                    refine lv_iload_n F.1 F.2.1 dX1_depth_125 rfl (lv_at hl 1 rfl) ?_
                    refine en_iald F Z 8 y.2 rfl hi_j dX1_depth_126 ?_
                    refine lv_istore_n (lv' := [(1, .int (nI (y.2 j))), (4, .int (nI (y.2 (mb τ j)))), (3, .int (nI j)), (2, .int (nI i)), (0, .ref h)]) F.1 F.2.1 dX1_depth_127 rfl hl (by decide) rfl (fun ls hl => ?_)
                    refine en_iinc (lv' := [(3, .int (nI (j + 1))), (1, .int (nI (y.2 j))), (4, .int (nI (y.2 (mb τ j)))), (2, .int (nI i)), (0, .ref h)]) F dX1_depth_128 hl (k := 2) rfl (by decide) rfl (fun ls hl => ?_)
                    refine lv_goto (tgt := 33) F.1 F.2.1 dX1_depth_131 (by decide) ?_
                    have ez : (ec_d1 (mkd τ) (ma τ) (mb τ)) j y = (y.2 j, y.2) := by unfold ec_d1; rw [est, if_pos c_7]
                    rw [ez] at kk_j
                    exact kk_j _ _ Z ls (lv_sub hl [0, 3, 1, 4] rfl)
                · skip
                  refine lv_aload_n F.1 F.2.1 dX1_depth_101 rfl (lv_at hl 4 rfl) ?_
                  refine em_get F Z 7 (by decide) rfl rfl q170 dX1_depth_102 ?_
                  refine lv_iload_n F.1 F.2.1 dX1_depth_105 rfl (lv_at hl 1 rfl) ?_
                  refine lv_iload F.1 F.2.1 dX1_depth_106 (lv_at hl 0 rfl) ?_
                  refine lv_iconst (v := (nI 1)) F.1 F.2.1 dX1_depth_108 (by decide) ?_
                  refine en_iadd F dX1_depth_109 ?_
                  refine en_iast (ws' := MW G h ad (msOn τ (ec_up y.2 j (y.2 (mb τ j) + 1)))) F Z 8 y.2 rfl hi_j rfl dX1_depth_110 (fun H locs Z => ?_)
                  have est : ec_st (mkd τ) (ma τ) (mb τ) ec_LF j y.2 = ec_up y.2 j (y.2 (mb τ j) + 1) := by simp [ec_st, ec_LF, ec_mx, c_6, Nat.not_lt.mpr c_5]
                  have h9 : ∀ q, q < 12 → (ec_up y.2 j (y.2 (mb τ j) + 1)) q < 13 := by rw [← est]; exact ec_lev13 hac (ec_lev_step hac hW.2.2.1 hW.2.2.2.1 hz_j.1 _ hi_j)
                  refine lv_aload_n F.1 F.2.1 dX1_depth_111 rfl (lv_at hl 4 rfl) ?_
                  refine em_get F Z 7 (by decide) rfl rfl q170 dX1_depth_112 ?_
                  refine lv_iload_n F.1 F.2.1 dX1_depth_115 rfl (lv_at hl 1 rfl) ?_
                  refine en_iald F Z 8 (ec_up y.2 j (y.2 (mb τ j) + 1)) rfl hi_j dX1_depth_116 ?_
                  refine lv_iload_n F.1 F.2.1 dX1_depth_117 rfl (lv_at hl 3 rfl) ?_
                  refine en_icmp_le (tgt := 128) F (Nat.lt_of_lt_of_le (h9 _ hi_j) (by decide)) (Nat.lt_of_lt_of_le hz_j.2 (by decide)) dX1_depth_118 (by decide) (fun c_8 => ?_) (fun c_8 => ?_)
                  · skip
                    refine en_iinc (lv' := [(3, .int (nI (j + 1))), (4, .int (nI (y.2 (mb τ j)))), (2, .int (nI i)), (1, .int (nI y.1)), (0, .ref h)]) F dX1_depth_128 hl (k := 1) rfl (by decide) rfl (fun ls hl => ?_)
                    refine lv_goto (tgt := 33) F.1 F.2.1 dX1_depth_131 (by decide) ?_
                    have ez : (ec_d1 (mkd τ) (ma τ) (mb τ)) j y = (y.1, ec_up y.2 j (y.2 (mb τ j) + 1)) := by unfold ec_d1; rw [est, if_neg (Nat.not_lt.mpr c_8)]
                    rw [ez] at kk_j
                    exact kk_j _ _ Z ls (lv_sub hl [0, 2, 3, 4] rfl)
                  · skip
                    refine lv_aload_n F.1 F.2.1 dX1_depth_121 rfl (lv_at hl 4 rfl) ?_
                    refine em_get F Z 7 (by decide) rfl rfl q170 dX1_depth_122 ?_
                    refine lv_iload_n F.1 F.2.1 dX1_depth_125 rfl (lv_at hl 1 rfl) ?_
                    refine en_iald F Z 8 (ec_up y.2 j (y.2 (mb τ j) + 1)) rfl hi_j dX1_depth_126 ?_
                    refine lv_istore_n (lv' := [(1, .int (nI (ec_up y.2 j (y.2 (mb τ j) + 1) j))), (4, .int (nI (y.2 (mb τ j)))), (3, .int (nI j)), (2, .int (nI i)), (0, .ref h)]) F.1 F.2.1 dX1_depth_127 rfl hl (by decide) rfl (fun ls hl => ?_)
                    refine en_iinc (lv' := [(3, .int (nI (j + 1))), (1, .int (nI (ec_up y.2 j (y.2 (mb τ j) + 1) j))), (4, .int (nI (y.2 (mb τ j)))), (2, .int (nI i)), (0, .ref h)]) F dX1_depth_128 hl (k := 2) rfl (by decide) rfl (fun ls hl => ?_)
                    refine lv_goto (tgt := 33) F.1 F.2.1 dX1_depth_131 (by decide) ?_
                    have ez : (ec_d1 (mkd τ) (ma τ) (mb τ)) j y = (ec_up y.2 j (y.2 (mb τ j) + 1) j, ec_up y.2 j (y.2 (mb τ j) + 1)) := by unfold ec_d1; rw [est, if_pos c_8]
                    rw [ez] at kk_j
                    exact kk_j _ _ Z ls (lv_sub hl [0, 3, 1, 4] rfl)
              · skip
                refine lv_aload_n F.1 F.2.1 dX1_depth_64 rfl (lv_at hl 3 rfl) ?_
                refine em_get F Z 7 (by decide) rfl rfl q170 dX1_depth_65 ?_
                refine lv_aload_n F.1 F.2.1 dX1_depth_68 rfl (lv_at hl 3 rfl) ?_
                refine em_get F Z 2 (by decide) rfl rfl q165 dX1_depth_69 ?_
                refine lv_iload_n F.1 F.2.1 dX1_depth_72 rfl (lv_at hl 0 rfl) ?_
                refine en_iald F Z 3 (ma τ) rfl hi_j dX1_depth_73 ?_
                refine en_iald F Z 8 y.2 rfl (hW.2.2.1 _ hi_j) dX1_depth_74 ?_
                refine lv_goto (tgt := 89) F.1 F.2.1 dX1_depth_75 (by decide) ?_
                refine lv_istore (lv' := [(4, .int (nI (y.2 (ma τ j)))), (3, .int (nI j)), (2, .int (nI i)), (1, .int (nI y.1)), (0, .ref h)]) F.1 F.2.1 dX1_depth_89 hl (by decide) rfl (fun ls hl => ?_)
                refine lv_aload_n F.1 F.2.1 dX1_depth_91 rfl (lv_at hl 4 rfl) ?_
                refine em_get F Z 0 (by decide) rfl rfl q163 dX1_depth_92 ?_
                refine lv_iload_n F.1 F.2.1 dX1_depth_95 rfl (lv_at hl 1 rfl) ?_
                refine en_iald F Z 1 (mkd τ) rfl hi_j dX1_depth_96 ?_
                refine lv_iconst (v := (nI 1)) F.1 F.2.1 dX1_depth_97 (by decide) ?_
                refine en_icmp_ne (tgt := 111) F (Nat.lt_of_lt_of_le (hW.1 _ hi_j) (by decide)) (by omega) dX1_depth_98 (by decide) (fun c_9 => ?_) (fun c_9 => ?_)
                · skip
                  have est : ec_st (mkd τ) (ma τ) (mb τ) ec_LF j y.2 = y.2 := by simp [ec_st, ec_LF, ec_mx, c_9, c_5]
                  have h9 : ∀ q, q < 12 → (y.2) q < 13 := by rw [← est]; exact ec_lev13 hac (ec_lev_step hac hW.2.2.1 hW.2.2.2.1 hz_j.1 _ hi_j)
                  refine lv_aload_n F.1 F.2.1 dX1_depth_111 rfl (lv_at hl 4 rfl) ?_
                  refine em_get F Z 7 (by decide) rfl rfl q170 dX1_depth_112 ?_
                  refine lv_iload_n F.1 F.2.1 dX1_depth_115 rfl (lv_at hl 1 rfl) ?_
                  refine en_iald F Z 8 y.2 rfl hi_j dX1_depth_116 ?_
                  refine lv_iload_n F.1 F.2.1 dX1_depth_117 rfl (lv_at hl 3 rfl) ?_
                  refine en_icmp_le (tgt := 128) F (Nat.lt_of_lt_of_le (h9 _ hi_j) (by decide)) (Nat.lt_of_lt_of_le hz_j.2 (by decide)) dX1_depth_118 (by decide) (fun c_10 => ?_) (fun c_10 => ?_)
                  · skip
                    refine en_iinc (lv' := [(3, .int (nI (j + 1))), (4, .int (nI (y.2 (ma τ j)))), (2, .int (nI i)), (1, .int (nI y.1)), (0, .ref h)]) F dX1_depth_128 hl (k := 1) rfl (by decide) rfl (fun ls hl => ?_)
                    refine lv_goto (tgt := 33) F.1 F.2.1 dX1_depth_131 (by decide) ?_
                    have ez : (ec_d1 (mkd τ) (ma τ) (mb τ)) j y = (y.1, y.2) := by unfold ec_d1; rw [est, if_neg (Nat.not_lt.mpr c_10)]
                    rw [ez] at kk_j
                    exact kk_j _ _ Z ls (lv_sub hl [0, 2, 3, 4] rfl)
                  · skip
                    refine lv_aload_n F.1 F.2.1 dX1_depth_121 rfl (lv_at hl 4 rfl) ?_
                    refine em_get F Z 7 (by decide) rfl rfl q170 dX1_depth_122 ?_
                    refine lv_iload_n F.1 F.2.1 dX1_depth_125 rfl (lv_at hl 1 rfl) ?_
                    refine en_iald F Z 8 y.2 rfl hi_j dX1_depth_126 ?_
                    refine lv_istore_n (lv' := [(1, .int (nI (y.2 j))), (4, .int (nI (y.2 (ma τ j)))), (3, .int (nI j)), (2, .int (nI i)), (0, .ref h)]) F.1 F.2.1 dX1_depth_127 rfl hl (by decide) rfl (fun ls hl => ?_)
                    refine en_iinc (lv' := [(3, .int (nI (j + 1))), (1, .int (nI (y.2 j))), (4, .int (nI (y.2 (ma τ j)))), (2, .int (nI i)), (0, .ref h)]) F dX1_depth_128 hl (k := 2) rfl (by decide) rfl (fun ls hl => ?_)
                    refine lv_goto (tgt := 33) F.1 F.2.1 dX1_depth_131 (by decide) ?_
                    have ez : (ec_d1 (mkd τ) (ma τ) (mb τ)) j y = (y.2 j, y.2) := by unfold ec_d1; rw [est, if_pos c_10]
                    rw [ez] at kk_j
                    exact kk_j _ _ Z ls (lv_sub hl [0, 3, 1, 4] rfl)
                · skip
                  refine lv_aload_n F.1 F.2.1 dX1_depth_101 rfl (lv_at hl 4 rfl) ?_
                  refine em_get F Z 7 (by decide) rfl rfl q170 dX1_depth_102 ?_
                  refine lv_iload_n F.1 F.2.1 dX1_depth_105 rfl (lv_at hl 1 rfl) ?_
                  refine lv_iload F.1 F.2.1 dX1_depth_106 (lv_at hl 0 rfl) ?_
                  refine lv_iconst (v := (nI 1)) F.1 F.2.1 dX1_depth_108 (by decide) ?_
                  refine en_iadd F dX1_depth_109 ?_
                  refine en_iast (ws' := MW G h ad (msOn τ (ec_up y.2 j (y.2 (ma τ j) + 1)))) F Z 8 y.2 rfl hi_j rfl dX1_depth_110 (fun H locs Z => ?_)
                  have est : ec_st (mkd τ) (ma τ) (mb τ) ec_LF j y.2 = ec_up y.2 j (y.2 (ma τ j) + 1) := by simp [ec_st, ec_LF, ec_mx, c_9, c_5]
                  have h9 : ∀ q, q < 12 → (ec_up y.2 j (y.2 (ma τ j) + 1)) q < 13 := by rw [← est]; exact ec_lev13 hac (ec_lev_step hac hW.2.2.1 hW.2.2.2.1 hz_j.1 _ hi_j)
                  refine lv_aload_n F.1 F.2.1 dX1_depth_111 rfl (lv_at hl 4 rfl) ?_
                  refine em_get F Z 7 (by decide) rfl rfl q170 dX1_depth_112 ?_
                  refine lv_iload_n F.1 F.2.1 dX1_depth_115 rfl (lv_at hl 1 rfl) ?_
                  refine en_iald F Z 8 (ec_up y.2 j (y.2 (ma τ j) + 1)) rfl hi_j dX1_depth_116 ?_
                  refine lv_iload_n F.1 F.2.1 dX1_depth_117 rfl (lv_at hl 3 rfl) ?_
                  refine en_icmp_le (tgt := 128) F (Nat.lt_of_lt_of_le (h9 _ hi_j) (by decide)) (Nat.lt_of_lt_of_le hz_j.2 (by decide)) dX1_depth_118 (by decide) (fun c_11 => ?_) (fun c_11 => ?_)
                  · skip
                    refine en_iinc (lv' := [(3, .int (nI (j + 1))), (4, .int (nI (y.2 (ma τ j)))), (2, .int (nI i)), (1, .int (nI y.1)), (0, .ref h)]) F dX1_depth_128 hl (k := 1) rfl (by decide) rfl (fun ls hl => ?_)
                    refine lv_goto (tgt := 33) F.1 F.2.1 dX1_depth_131 (by decide) ?_
                    have ez : (ec_d1 (mkd τ) (ma τ) (mb τ)) j y = (y.1, ec_up y.2 j (y.2 (ma τ j) + 1)) := by unfold ec_d1; rw [est, if_neg (Nat.not_lt.mpr c_11)]
                    rw [ez] at kk_j
                    exact kk_j _ _ Z ls (lv_sub hl [0, 2, 3, 4] rfl)
                  · skip
                    refine lv_aload_n F.1 F.2.1 dX1_depth_121 rfl (lv_at hl 4 rfl) ?_
                    refine em_get F Z 7 (by decide) rfl rfl q170 dX1_depth_122 ?_
                    refine lv_iload_n F.1 F.2.1 dX1_depth_125 rfl (lv_at hl 1 rfl) ?_
                    refine en_iald F Z 8 (ec_up y.2 j (y.2 (ma τ j) + 1)) rfl hi_j dX1_depth_126 ?_
                    refine lv_istore_n (lv' := [(1, .int (nI (ec_up y.2 j (y.2 (ma τ j) + 1) j))), (4, .int (nI (y.2 (ma τ j)))), (3, .int (nI j)), (2, .int (nI i)), (0, .ref h)]) F.1 F.2.1 dX1_depth_127 rfl hl (by decide) rfl (fun ls hl => ?_)
                    refine en_iinc (lv' := [(3, .int (nI (j + 1))), (1, .int (nI (ec_up y.2 j (y.2 (ma τ j) + 1) j))), (4, .int (nI (y.2 (ma τ j)))), (2, .int (nI i)), (0, .ref h)]) F dX1_depth_128 hl (k := 2) rfl (by decide) rfl (fun ls hl => ?_)
                    refine lv_goto (tgt := 33) F.1 F.2.1 dX1_depth_131 (by decide) ?_
                    have ez : (ec_d1 (mkd τ) (ma τ) (mb τ)) j y = (ec_up y.2 j (y.2 (ma τ j) + 1) j, ec_up y.2 j (y.2 (ma τ j) + 1)) := by unfold ec_d1; rw [est, if_pos c_11]
                    rw [ez] at kk_j
                    exact kk_j _ _ Z ls (lv_sub hl [0, 3, 1, 4] rfl)
          · intro H locs Z ls hl
            refine lv_iload_n F.1 F.2.1 dX1_depth_33 rfl (lv_at hl 0 rfl) ?_
            refine lv_bipush (v := (nI 12)) F.1 F.2.1 dX1_depth_34 (by decide) ?_
            refine en_icmp_ge (tgt := 134) F (by omega) (by omega) dX1_depth_36 (by decide) (fun c_12 => ?_) (fun c_12 => ?_)
            · skip
              refine en_iinc (lv' := [(2, .int (nI (i + 1))), (3, .int (nI 12)), (1, .int (nI ((ec_lp (ec_d1 (mkd τ) (ma τ) (mb τ)) 12 0 z).1))), (0, .ref h)]) F dX1_depth_134 hl (k := 1) rfl (by decide) rfl (fun ls hl => ?_)
              refine lv_goto (tgt := 25) F.1 F.2.1 dX1_depth_137 (by decide) ?_
              exact kk_i _ _ Z ls (lv_sub hl [0, 2, 3] rfl)
            · exact absurd c_12 (by decide)
      · intro H locs Z ls hl
        refine lv_iload_n F.1 F.2.1 dX1_depth_25 rfl (lv_at hl 0 rfl) ?_
        refine lv_bipush (v := (nI 12)) F.1 F.2.1 dX1_depth_26 (by decide) ?_
        refine en_icmp_ge (tgt := 140) F (by omega) (by omega) dX1_depth_28 (by decide) (fun c_13 => ?_) (fun c_13 => ?_)
        · skip
          refine lv_iload_n F.1 F.2.1 dX1_depth_140 rfl (lv_at hl 1 rfl) ?_
          refine ret _ _ _ _ _ _ rfl Z ?_ dX1_depth_141
          exact ⟨rfl, rfl⟩
        · exact absurd c_13 (by decide)
    · exact absurd c_2 (by decide)
end
section
/-! branches -/
theorem ec_nt {b : Bool} (h : b = false) : ¬ b = true := by rw [h]; decide
theorem ec_n3 {A B C : Prop} (h1 : A) (h2 : ¬ B) (h3 : ¬ C) : ¬ (¬ A ∨ B ∨ C) := by
  rintro (h | h | h)
  · exact h h1
  · exact h2 h
  · exact h3 h
end
section
/-! EventCircuitModel: change and public methods -/
set_option maxRecDepth 100000
set_option maxHeartbeats 4000000 in
theorem m_change_m (l : Launch) (D : va_G) (G : ec_G) (h : Nat) (ad : Nat → Nat) (sz : Nat) (τ : MS) (k v : Nat) (hk : k < 12) (hv : v < 16) (hW : MWF τ) : ec_Mi l yX1_change cX1_change 6 (some .int) 2 D G (MW G h ad) h [.int (nI k), .int (nI v)] τ sz (fun r τ' => r = nI (m_rg τ k v).1 ∧ τ' = m_change τ k v) := by
  refine ec_walk_i RX1 (by decide) rfl (Nat.le_of_ble_eq_true rfl) ?_
  intro p e s m below meth c A args Q F hA ret Z ls hl
  have hl : lv_has ls 6 [(0, .ref h), (1, .int (nI k)), (2, .int (nI v))] := hl
  have key23 : ∀ (H : Heap) (locs : List Loc), ec_Z D G A s (MW G h ad τ) H locs → ∀ ls : Array Slot, lv_has ls 6 [(0, .ref h), (1, .int (nI k)), (2, .int (nI v))] → W p l e (ec_rm 2) s m args below meth c H locs 0 0 Q (F0 m 23 ls [.int (nI (m_ri τ k v).toNat)]) := by
    intro H locs Z ls hl
    refine lv_istore_n (lv' := [(3, .int (nI (m_ri τ k v).toNat)), (0, .ref h), (1, .int (nI k)), (2, .int (nI v))]) F.1 F.2.1 dX1_change_23 rfl hl (by decide) rfl (fun ls hl => ?_)
    refine lv_iconst (v := (nI 0)) F.1 F.2.1 dX1_change_24 (by decide) ?_
    refine lv_istore (lv' := [(4, .int (nI 0)), (3, .int (nI (m_ri τ k v).toNat)), (0, .ref h), (1, .int (nI k)), (2, .int (nI v))]) F.1 F.2.1 dX1_change_25 hl (by decide) rfl (fun ls hl => ?_)
    refine lv_iconst (v := (nI 0)) F.1 F.2.1 dX1_change_27 (by decide) ?_
    refine lv_istore (lv' := [(5, .int (nI 0)), (4, .int (nI 0)), (3, .int (nI (m_ri τ k v).toNat)), (0, .ref h), (1, .int (nI k)), (2, .int (nI v))]) F.1 F.2.1 dX1_change_28 hl (by decide) rfl (fun ls hl => ?_)
    refine ec_lp_run (S := ec_A) (ec_bfc (mvl τ)) (fun i z => True) (fun i z => ∀ (H : Heap) (locs : List Loc), ec_Z D G A s (MW G h ad (msBf τ z)) H locs → ∀ ls : Array Slot, lv_has ls 6 [(5, .int (nI i)), (4, .int (nI 0)), (3, .int (nI (m_ri τ k v).toNat)), (0, .ref h), (1, .int (nI k)), (2, .int (nI v))] → W p l e (ec_rm 2) s m args below meth c H locs 0 0 Q (F0 m 30 ls [])) 12 (fun _ _ _ _ => trivial) ?_ 12 0 (mbf τ) (Nat.zero_add _) trivial ?_ _ _ Z ls (lv_sub hl [0, 1, 2, 3, 4, 5] rfl)
    · intro i z hi_i hz_i kk_i H locs Z ls hl
      refine lv_iload F.1 F.2.1 dX1_change_30 (lv_at hl 0 rfl) ?_
      refine lv_bipush (v := (nI 12)) F.1 F.2.1 dX1_change_32 (by decide) ?_
      refine en_icmp_ge (tgt := 57) F (Nat.lt_of_lt_of_le hi_i (by decide)) (by omega) dX1_change_34 (by decide) (fun c_1 => ?_) (fun c_1 => ?_)
      · exact absurd hi_i (Nat.not_lt.mpr c_1)
      · skip
        refine lv_aload_n F.1 F.2.1 dX1_change_37 rfl (lv_at hl 3 rfl) ?_
        refine em_get F Z 6 (by decide) rfl rfl q169 dX1_change_38 ?_
        refine lv_iload F.1 F.2.1 dX1_change_41 (lv_at hl 0 rfl) ?_
        refine lv_aload_n F.1 F.2.1 dX1_change_43 rfl (lv_at hl 3 rfl) ?_
        refine em_get F Z 5 (by decide) rfl rfl q168 dX1_change_44 ?_
        refine lv_iload F.1 F.2.1 dX1_change_47 (lv_at hl 0 rfl) ?_
        refine en_iald F Z 6 (mvl τ) rfl hi_i dX1_change_49 ?_
        refine en_iast (ws' := MW G h ad (msBf τ (ec_up z i (mvl τ i)))) F Z 7 z rfl hi_i rfl dX1_change_50 (fun H locs Z => ?_)
        refine en_iinc (lv' := [(5, .int (nI (i + 1))), (4, .int (nI 0)), (3, .int (nI (m_ri τ k v).toNat)), (0, .ref h), (1, .int (nI k)), (2, .int (nI v))]) F dX1_change_51 hl (k := 0) rfl (by decide) rfl (fun ls hl => ?_)
        refine lv_goto (tgt := 30) F.1 F.2.1 dX1_change_54 (by decide) ?_
        exact kk_i _ _ Z ls (lv_sub hl [0, 1, 2, 3, 4, 5] rfl)
    · intro H locs Z ls hl
      have Z : ec_Z D G A s (MW G h ad (msBf τ (m_bf τ))) H locs := Z
      refine lv_iload F.1 F.2.1 dX1_change_30 (lv_at hl 0 rfl) ?_
      refine lv_bipush (v := (nI 12)) F.1 F.2.1 dX1_change_32 (by decide) ?_
      refine en_icmp_ge (tgt := 57) F (by omega) (by omega) dX1_change_34 (by decide) (fun c_2 => ?_) (fun c_2 => ?_)
      · skip
        refine lv_iconst (v := (nI 0)) F.1 F.2.1 dX1_change_57 (by decide) ?_
        refine lv_istore (lv' := [(5, .int (nI 0)), (4, .int (nI 0)), (3, .int (nI (m_ri τ k v).toNat)), (0, .ref h), (1, .int (nI k)), (2, .int (nI v))]) F.1 F.2.1 dX1_change_58 hl (by decide) rfl (fun ls hl => ?_)
        refine ec_lp_run (S := ec_A) (ec_onc (mop τ) (ma τ) (mb τ) (mvl τ)) (fun i z => True) (fun i z => ∀ (H : Heap) (locs : List Loc), ec_Z D G A s (MW G h ad (msOn (msBf τ (m_bf τ)) z)) H locs → ∀ ls : Array Slot, lv_has ls 6 [(5, .int (nI i)), (4, .int (nI 0)), (3, .int (nI (m_ri τ k v).toNat)), (0, .ref h), (1, .int (nI k)), (2, .int (nI v))] → W p l e (ec_rm 2) s m args below meth c H locs 0 0 Q (F0 m 60 ls [])) 12 (fun _ _ _ _ => trivial) ?_ 12 0 (mon τ) (Nat.zero_add _) trivial ?_ _ _ Z ls (lv_sub hl [0, 1, 2, 3, 4, 5] rfl)
        · intro i z hi_i hz_i kk_i H locs Z ls hl
          refine lv_iload F.1 F.2.1 dX1_change_60 (lv_at hl 0 rfl) ?_
          refine lv_bipush (v := (nI 12)) F.1 F.2.1 dX1_change_62 (by decide) ?_
          refine en_icmp_ge (tgt := 86) F (Nat.lt_of_lt_of_le hi_i (by decide)) (by omega) dX1_change_64 (by decide) (fun c_3 => ?_) (fun c_3 => ?_)
          · exact absurd hi_i (Nat.not_lt.mpr c_3)
          · skip
            refine lv_aload_n F.1 F.2.1 dX1_change_67 rfl (lv_at hl 3 rfl) ?_
            refine em_get F Z 7 (by decide) rfl rfl q170 dX1_change_68 ?_
            refine lv_iload F.1 F.2.1 dX1_change_71 (lv_at hl 0 rfl) ?_
            refine lv_aload_n F.1 F.2.1 dX1_change_73 rfl (lv_at hl 3 rfl) ?_
            refine lv_iload F.1 F.2.1 dX1_change_74 (lv_at hl 0 rfl) ?_
            refine ec_calli (Wf := MW G h ad) (σ := msOn (msBf τ (m_bf τ)) z) (rest := [.int (nI i), .ref (ad 7)]) F Z hA (m_formula_m l D G h ad _ (msOn (msBf τ (m_bf τ)) z) i hi_i (mwf_on (mwf_bf hW _) _)) (cwV 1 F.2.2.2.2 (lw_V q216 q218 qs19 q24 q219) rfl rfl rfl (by decide +kernel) ⟨Nat.le_of_ble_eq_true rfl, Nat.le_of_ble_eq_true rfl⟩) (em_recv Z) rfl hl.1 rfl (Nat.le_of_ble_eq_true rfl) dX1_change_76 ⟨Nat.le_of_ble_eq_true rfl, Nat.le_of_ble_eq_true rfl⟩ (fun r σ1 H locs hp Z => ?_)
            have hp1 : r = nI (ec_fm (mop τ i) (mvl τ (ma τ i)) (mvl τ (mb τ i))) := hp.1
            have hp2 : σ1 = msOn (msBf τ (m_bf τ)) z := hp.2
            rw [hp1]
            rw [hp2] at Z
            refine en_iast (ws' := MW G h ad (msOn (msBf τ (m_bf τ)) (ec_up z i (ec_fm (mop τ i) (mvl τ (ma τ i)) (mvl τ (mb τ i)))))) F Z 8 z rfl hi_i rfl dX1_change_79 (fun H locs Z => ?_)
            refine en_iinc (lv' := [(5, .int (nI (i + 1))), (4, .int (nI 0)), (3, .int (nI (m_ri τ k v).toNat)), (0, .ref h), (1, .int (nI k)), (2, .int (nI v))]) F dX1_change_80 hl (k := 0) rfl (by decide) rfl (fun ls hl => ?_)
            refine lv_goto (tgt := 60) F.1 F.2.1 dX1_change_83 (by decide) ?_
            exact kk_i _ _ Z ls (lv_sub hl [0, 1, 2, 3, 4, 5] rfl)
        · intro H locs Z ls hl
          have Z : ec_Z D G A s (MW G h ad (msOn (msBf τ (m_bf τ)) (m_on τ))) H locs := Z
          refine lv_iload F.1 F.2.1 dX1_change_60 (lv_at hl 0 rfl) ?_
          refine lv_bipush (v := (nI 12)) F.1 F.2.1 dX1_change_62 (by decide) ?_
          refine en_icmp_ge (tgt := 86) F (by omega) (by omega) dX1_change_64 (by decide) (fun c_4 => ?_) (fun c_4 => ?_)
          · skip
            refine lv_iconst (v := (nI 0)) F.1 F.2.1 dX1_change_86 (by decide) ?_
            refine lv_istore (lv' := [(5, .int (nI 0)), (4, .int (nI 0)), (3, .int (nI (m_ri τ k v).toNat)), (0, .ref h), (1, .int (nI k)), (2, .int (nI v))]) F.1 F.2.1 dX1_change_87 hl (by decide) rfl (fun ls hl => ?_)
            refine ec_lp_run (S := Nat × ec_A) (ec_rg (mkd τ) (mck τ) (m_on τ) (m_ri τ k v) k) (fun i z => ∀ q, q < 12 → z.2 q < 16) (fun i z => ∀ (H : Heap) (locs : List Loc), ec_Z D G A s (MW G h ad (msVl (msOn (msBf τ (m_bf τ)) (m_on τ)) z.2)) H locs → ∀ ls : Array Slot, lv_has ls 6 [(5, .int (nI i)), (4, .int (nI z.1)), (3, .int (nI (m_ri τ k v).toNat)), (0, .ref h), (1, .int (nI k)), (2, .int (nI v))] → W p l e (ec_rm 2) s m args below meth c H locs 0 0 Q (F0 m 89 ls [])) 12 (fun _ _ hi h => ec_rg_lt (m_on_lt hW) h _ hi) ?_ 12 0 (0, mvl τ) (Nat.zero_add _) hW.2.2.2.2.2 ?_ _ _ Z ls (lv_sub hl [0, 1, 2, 3, 4, 5] rfl)
            · intro i z hi_i hz_i kk_i H locs Z ls hl
              refine lv_iload F.1 F.2.1 dX1_change_89 (lv_at hl 0 rfl) ?_
              refine lv_bipush (v := (nI 12)) F.1 F.2.1 dX1_change_91 (by decide) ?_
              refine en_icmp_ge (tgt := 162) F (Nat.lt_of_lt_of_le hi_i (by decide)) (by omega) dX1_change_93 (by decide) (fun c_5 => ?_) (fun c_5 => ?_)
              · exact absurd hi_i (Nat.not_lt.mpr c_5)
              · skip
                refine lv_iload_n F.1 F.2.1 dX1_change_96 rfl (lv_at hl 2 rfl) ?_
                refine en_ifb_eq (tgt := 156) F dX1_change_97 (by decide) (fun c_6 => ?_) (fun c_6 => ?_)
                · skip
                  refine en_iinc (lv' := [(5, .int (nI (i + 1))), (4, .int (nI z.1)), (3, .int (nI (m_ri τ k v).toNat)), (0, .ref h), (1, .int (nI k)), (2, .int (nI v))]) F dX1_change_156 hl (k := 0) rfl (by decide) rfl (fun ls hl => ?_)
                  refine lv_goto (tgt := 89) F.1 F.2.1 dX1_change_159 (by decide) ?_
                  have ez : (ec_rg (mkd τ) (mck τ) (m_on τ) (m_ri τ k v) k) i z = z := by simp [ec_rg, c_6]
                  rw [ez] at kk_i
                  exact kk_i _ _ Z ls (lv_sub hl [0, 1, 2, 3, 4, 5] rfl)
                · skip
                  refine lv_aload_n F.1 F.2.1 dX1_change_100 rfl (lv_at hl 3 rfl) ?_
                  refine em_get F Z 0 (by decide) rfl rfl q163 dX1_change_101 ?_
                  refine lv_iload F.1 F.2.1 dX1_change_104 (lv_at hl 0 rfl) ?_
                  refine en_iald F Z 1 (mkd τ) rfl hi_i dX1_change_106 ?_
                  refine lv_iconst (v := (nI 2)) F.1 F.2.1 dX1_change_107 (by decide) ?_
                  refine en_icmp_ne (tgt := 156) F (Nat.lt_of_lt_of_le (hW.1 _ hi_i) (by decide)) (by omega) dX1_change_108 (by decide) (fun c_7 => ?_) (fun c_7 => ?_)
                  · skip
                    refine en_iinc (lv' := [(5, .int (nI (i + 1))), (4, .int (nI z.1)), (3, .int (nI (m_ri τ k v).toNat)), (0, .ref h), (1, .int (nI k)), (2, .int (nI v))]) F dX1_change_156 hl (k := 0) rfl (by decide) rfl (fun ls hl => ?_)
                    refine lv_goto (tgt := 89) F.1 F.2.1 dX1_change_159 (by decide) ?_
                    have ez : (ec_rg (mkd τ) (mck τ) (m_on τ) (m_ri τ k v) k) i z = z := by simp [ec_rg, c_7]
                    rw [ez] at kk_i
                    exact kk_i _ _ Z ls (lv_sub hl [0, 1, 2, 3, 4, 5] rfl)
                  · skip
                    refine lv_aload_n F.1 F.2.1 dX1_change_111 rfl (lv_at hl 3 rfl) ?_
                    refine em_get F Z 4 (by decide) rfl rfl q167 dX1_change_112 ?_
                    refine lv_iload F.1 F.2.1 dX1_change_115 (lv_at hl 0 rfl) ?_
                    refine en_iald F Z 5 (mck τ) rfl hi_i dX1_change_117 ?_
                    refine lv_iload_n F.1 F.2.1 dX1_change_118 rfl (lv_at hl 4 rfl) ?_
                    refine en_icmp_ne (tgt := 156) F (Nat.lt_of_lt_of_le (hW.2.2.2.2.1 _ hi_i) (by decide)) (Nat.lt_of_lt_of_le hk (by decide)) dX1_change_119 (by decide) (fun c_8 => ?_) (fun c_8 => ?_)
                    · skip
                      refine en_iinc (lv' := [(5, .int (nI (i + 1))), (4, .int (nI z.1)), (3, .int (nI (m_ri τ k v).toNat)), (0, .ref h), (1, .int (nI k)), (2, .int (nI v))]) F dX1_change_156 hl (k := 0) rfl (by decide) rfl (fun ls hl => ?_)
                      refine lv_goto (tgt := 89) F.1 F.2.1 dX1_change_159 (by decide) ?_
                      have ez : (ec_rg (mkd τ) (mck τ) (m_on τ) (m_ri τ k v) k) i z = z := by simp [ec_rg, c_8]
                      rw [ez] at kk_i
                      exact kk_i _ _ Z ls (lv_sub hl [0, 1, 2, 3, 4, 5] rfl)
                    · skip
                      refine lv_aload_n F.1 F.2.1 dX1_change_122 rfl (lv_at hl 3 rfl) ?_
                      refine em_get F Z 5 (by decide) rfl rfl q168 dX1_change_123 ?_
                      refine lv_iload F.1 F.2.1 dX1_change_126 (lv_at hl 0 rfl) ?_
                      refine en_iald F Z 6 z.2 rfl hi_i dX1_change_128 ?_
                      refine lv_aload_n F.1 F.2.1 dX1_change_129 rfl (lv_at hl 3 rfl) ?_
                      refine em_get F Z 7 (by decide) rfl rfl q170 dX1_change_130 ?_
                      refine lv_iload F.1 F.2.1 dX1_change_133 (lv_at hl 0 rfl) ?_
                      refine en_iald F Z 8 (m_on τ) rfl hi_i dX1_change_135 ?_
                      refine en_icmp_eq (tgt := 142) F (Nat.lt_of_lt_of_le (hz_i _ hi_i) (by decide)) (Nat.lt_of_lt_of_le ((m_on_lt hW) _ hi_i) (by decide)) dX1_change_136 (by decide) (fun c_9 => ?_) (fun c_9 => ?_)
                      · skip
                        refine lv_aload_n F.1 F.2.1 dX1_change_142 rfl (lv_at hl 3 rfl) ?_
                        refine em_get F Z 5 (by decide) rfl rfl q168 dX1_change_143 ?_
                        refine lv_iload F.1 F.2.1 dX1_change_146 (lv_at hl 0 rfl) ?_
                        refine lv_aload_n F.1 F.2.1 dX1_change_148 rfl (lv_at hl 3 rfl) ?_
                        refine em_get F Z 7 (by decide) rfl rfl q170 dX1_change_149 ?_
                        refine lv_iload F.1 F.2.1 dX1_change_152 (lv_at hl 0 rfl) ?_
                        refine en_iald F Z 8 (m_on τ) rfl hi_i dX1_change_154 ?_
                        refine en_iast (ws' := MW G h ad (msVl (msOn (msBf τ (m_bf τ)) (m_on τ)) (ec_up z.2 i (m_on τ i)))) F Z 6 z.2 rfl hi_i rfl dX1_change_155 (fun H locs Z => ?_)
                        refine en_iinc (lv' := [(5, .int (nI (i + 1))), (4, .int (nI z.1)), (3, .int (nI (m_ri τ k v).toNat)), (0, .ref h), (1, .int (nI k)), (2, .int (nI v))]) F dX1_change_156 hl (k := 0) rfl (by decide) rfl (fun ls hl => ?_)
                        refine lv_goto (tgt := 89) F.1 F.2.1 dX1_change_159 (by decide) ?_
                        have ez : (ec_rg (mkd τ) (mck τ) (m_on τ) (m_ri τ k v) k) i z = (z.1, ec_up z.2 i (m_on τ i)) := by unfold ec_rg; rw [if_pos ⟨c_6, c_7, c_8⟩, if_pos c_9]
                        rw [ez] at kk_i
                        exact kk_i _ _ Z ls (lv_sub hl [0, 1, 2, 3, 4, 5] rfl)
                      · skip
                        refine en_iinc (lv' := [(4, .int (nI (z.1 + 1))), (5, .int (nI i)), (3, .int (nI (m_ri τ k v).toNat)), (0, .ref h), (1, .int (nI k)), (2, .int (nI v))]) F dX1_change_139 hl (k := 1) rfl (by decide) rfl (fun ls hl => ?_)
                        refine lv_aload_n F.1 F.2.1 dX1_change_142 rfl (lv_at hl 3 rfl) ?_
                        refine em_get F Z 5 (by decide) rfl rfl q168 dX1_change_143 ?_
                        refine lv_iload F.1 F.2.1 dX1_change_146 (lv_at hl 1 rfl) ?_
                        refine lv_aload_n F.1 F.2.1 dX1_change_148 rfl (lv_at hl 3 rfl) ?_
                        refine em_get F Z 7 (by decide) rfl rfl q170 dX1_change_149 ?_
                        refine lv_iload F.1 F.2.1 dX1_change_152 (lv_at hl 1 rfl) ?_
                        refine en_iald F Z 8 (m_on τ) rfl hi_i dX1_change_154 ?_
                        refine en_iast (ws' := MW G h ad (msVl (msOn (msBf τ (m_bf τ)) (m_on τ)) (ec_up z.2 i (m_on τ i)))) F Z 6 z.2 rfl hi_i rfl dX1_change_155 (fun H locs Z => ?_)
                        refine en_iinc (lv' := [(5, .int (nI (i + 1))), (4, .int (nI (z.1 + 1))), (3, .int (nI (m_ri τ k v).toNat)), (0, .ref h), (1, .int (nI k)), (2, .int (nI v))]) F dX1_change_156 hl (k := 1) rfl (by decide) rfl (fun ls hl => ?_)
                        refine lv_goto (tgt := 89) F.1 F.2.1 dX1_change_159 (by decide) ?_
                        have ez : (ec_rg (mkd τ) (mck τ) (m_on τ) (m_ri τ k v) k) i z = (z.1 + 1, ec_up z.2 i (m_on τ i)) := by unfold ec_rg; rw [if_pos ⟨c_6, c_7, c_8⟩, if_neg c_9]
                        rw [ez] at kk_i
                        exact kk_i _ _ Z ls (lv_sub hl [0, 1, 2, 3, 4, 5] rfl)
            · intro H locs Z ls hl
              have Z : ec_Z D G A s (MW G h ad (msVl (msOn (msBf τ (m_bf τ)) (m_on τ)) (m_rg τ k v).2)) H locs := Z
              have hl : lv_has ls 6 [(5, .int (nI 12)), (4, .int (nI ((m_rg τ k v).1))), (3, .int (nI (m_ri τ k v).toNat)), (0, .ref h), (1, .int (nI k)), (2, .int (nI v))] := hl
              refine lv_iload F.1 F.2.1 dX1_change_89 (lv_at hl 0 rfl) ?_
              refine lv_bipush (v := (nI 12)) F.1 F.2.1 dX1_change_91 (by decide) ?_
              refine en_icmp_ge (tgt := 162) F (by omega) (by omega) dX1_change_93 (by decide) (fun c_10 => ?_) (fun c_10 => ?_)
              · skip
                refine lv_aload_n F.1 F.2.1 dX1_change_162 rfl (lv_at hl 3 rfl) ?_
                refine em_get F Z 5 (by decide) rfl rfl q168 dX1_change_163 ?_
                refine lv_iload_n F.1 F.2.1 dX1_change_166 rfl (lv_at hl 4 rfl) ?_
                refine lv_iload_n F.1 F.2.1 dX1_change_167 rfl (lv_at hl 5 rfl) ?_
                refine en_iast (ws' := MW G h ad (msVl (msOn (msBf τ (m_bf τ)) (m_on τ)) (ec_up ((m_rg τ k v).2) k v))) F Z 6 ((m_rg τ k v).2) rfl hk rfl dX1_change_168 (fun H locs Z => ?_)
                refine lv_aload_n F.1 F.2.1 dX1_change_169 rfl (lv_at hl 3 rfl) ?_
                refine ec_callv (Wf := MW G h ad) (σ := msVl (msOn (msBf τ (m_bf τ)) (m_on τ)) (ec_up ((m_rg τ k v).2) k v)) (rest := []) F Z hA (m_settle_m l D G h ad _ (msVl (msOn (msBf τ (m_bf τ)) (m_on τ)) (ec_up (m_rg τ k v).2 k v)) (mwf_vl (mwf_on (mwf_bf hW _) _) (ec_up_lt (m_rg_lt hW k v) hv))) (cwV 0 F.2.2.2.2 (lw_V q212 q214 qs18 q24 q215) rfl rfl rfl (by decide +kernel) ⟨Nat.le_of_ble_eq_true rfl, Nat.le_of_ble_eq_true rfl⟩) (em_recv Z) rfl hl.1 rfl (Nat.le_of_ble_eq_true rfl) dX1_change_170 ⟨Nat.le_of_ble_eq_true rfl, Nat.le_of_ble_eq_true rfl⟩ (fun σ1 H locs hp Z => ?_)
                have hp : σ1 = m_change τ k v := hp
                rw [hp] at Z
                refine lv_iload F.1 F.2.1 dX1_change_173 (lv_at hl 1 rfl) ?_
                refine ret _ _ _ _ _ _ rfl Z ?_ dX1_change_175
                exact ⟨rfl, rfl⟩
              · exact absurd c_10 (by decide)
          · exact absurd c_4 (by decide)
      · exact absurd c_2 (by decide)
  refine lv_aload_n F.1 F.2.1 dX1_change_0 rfl (lv_at hl 0 rfl) ?_
  refine em_get F Z 5 (by decide) rfl rfl q168 dX1_change_1 ?_
  refine lv_iload_n F.1 F.2.1 dX1_change_4 rfl (lv_at hl 1 rfl) ?_
  refine en_iald F Z 6 (mvl τ) rfl hk dX1_change_5 ?_
  refine lv_iconst (v := (nI 2)) F.1 F.2.1 dX1_change_6 (by decide) ?_
  refine en_irem F (Nat.lt_of_lt_of_le (hW.2.2.2.2.2 _ hk) (by decide)) (by decide) (by decide) dX1_change_7 ?_
  refine en_if_ne (tgt := 22) F (by omega) dX1_change_8 (by decide) (fun c_11 => ?_) (fun c_11 => ?_)
  · skip
    refine lv_iconst (v := (nI 0)) F.1 F.2.1 dX1_change_22 (by decide) ?_
    have e9 : m_ri τ k v = false := decide_eq_false (fun g => c_11 g.1)
    refine W.eq (g2 := F0 m 23 ls [.int (nI (m_ri τ k v).toNat)]) (by rw [e9]; rfl) ?_
    exact key23 _ _ Z ls (lv_sub hl [0, 1, 2] rfl)
  · skip
    refine lv_iload_n F.1 F.2.1 dX1_change_11 rfl (lv_at hl 2 rfl) ?_
    refine lv_iconst (v := (nI 2)) F.1 F.2.1 dX1_change_12 (by decide) ?_
    refine en_irem F (Nat.lt_of_lt_of_le hv (by decide)) (by decide) (by decide) dX1_change_13 ?_
    refine lv_iconst (v := (nI 1)) F.1 F.2.1 dX1_change_14 (by decide) ?_
    refine en_icmp_ne (tgt := 22) F (by omega) (by omega) dX1_change_15 (by decide) (fun c_12 => ?_) (fun c_12 => ?_)
    · skip
      refine lv_iconst (v := (nI 0)) F.1 F.2.1 dX1_change_22 (by decide) ?_
      have e9 : m_ri τ k v = false := decide_eq_false (fun g => c_12 g.2)
      refine W.eq (g2 := F0 m 23 ls [.int (nI (m_ri τ k v).toNat)]) (by rw [e9]; rfl) ?_
      exact key23 _ _ Z ls (lv_sub hl [0, 1, 2] rfl)
    · skip
      refine lv_iconst (v := (nI 1)) F.1 F.2.1 dX1_change_18 (by decide) ?_
      refine lv_goto (tgt := 23) F.1 F.2.1 dX1_change_19 (by decide) ?_
      have e9 : m_ri τ k v = true := decide_eq_true ⟨c_11, c_12⟩
      refine W.eq (g2 := F0 m 23 ls [.int (nI (m_ri τ k v).toNat)]) (by rw [e9]; rfl) ?_
      exact key23 _ _ Z ls (lv_sub hl [0, 1, 2] rfl)
set_option maxHeartbeats 4000000 in
theorem m_status_m (l : Launch) (D : va_G) (G : ec_G) (h : Nat) (ad : Nat → Nat) (sz : Nat) (τ : MS) (k v : Nat) (hk : k < 12) (hv : v < 16) (hW : MWF τ) : ec_Mi l yX1_status cX1_status 3 (some .int) 1 D G (MW G h ad) h [.int (nI k), .int (nI v)] τ sz (fun r τ' => r = (if mkd τ k = 0 then 0 else -3) ∧ τ' = τ) := by
  refine ec_walk_i RX1 (by decide) rfl (Nat.le_of_ble_eq_true rfl) ?_
  intro p e s m below meth c A args Q F hA ret Z ls hl
  have hl : lv_has ls 3 [(0, .ref h), (1, .int (nI k)), (2, .int (nI v))] := hl
  refine lv_aload_n F.1 F.2.1 dX1_status_0 rfl (lv_at hl 0 rfl) ?_
  refine lv_iload_n F.1 F.2.1 dX1_status_1 rfl (lv_at hl 1 rfl) ?_
  refine ec_calli (Wf := MW G h ad) (σ := τ) (rest := []) F Z hA (m_sig1 l D G h ad _ (τ) (nI k) (ec_sg_nI hk)) (cwV 1 F.2.2.2.2 (lw_V q192 q194 qs13 q24 q195) rfl rfl rfl (by decide +kernel) ⟨Nat.le_of_ble_eq_true rfl, Nat.le_of_ble_eq_true rfl⟩) (em_recv Z) rfl hl.1 rfl (Nat.le_of_ble_eq_true rfl) dX1_status_2 ⟨Nat.le_of_ble_eq_true rfl, Nat.le_of_ble_eq_true rfl⟩ (fun r σ1 H locs hp Z => ?_)
  obtain ⟨hp1, hp2⟩ := hp
  rw [hp1]
  rw [hp2] at Z
  refine en_if_eq (tgt := 18) F (by omega) dX1_status_5 (by decide) (fun c_1 => ?_) (fun c_1 => ?_)
  · exact absurd c_1 (by decide)
  · skip
    refine lv_iload_n F.1 F.2.1 dX1_status_8 rfl (lv_at hl 2 rfl) ?_
    refine lv_if_lt (tgt := 18) F.1 F.2.1 dX1_status_9 (by decide) (fun c_2 => ?_) (fun c_2 => ?_)
    · exact absurd c_2 (nI_pos (by omega))
    · skip
      refine lv_iload_n F.1 F.2.1 dX1_status_12 rfl (lv_at hl 2 rfl) ?_
      refine lv_bipush (v := (nI 15)) F.1 F.2.1 dX1_status_13 (by decide) ?_
      refine en_icmp_le (tgt := 20) F (Nat.lt_of_lt_of_le hv (by decide)) (by omega) dX1_status_15 (by decide) (fun c_3 => ?_) (fun c_3 => ?_)
      · skip
        refine lv_aload_n F.1 F.2.1 dX1_status_20 rfl (lv_at hl 0 rfl) ?_
        refine em_get F Z 0 (by decide) rfl rfl q163 dX1_status_21 ?_
        refine lv_iload_n F.1 F.2.1 dX1_status_24 rfl (lv_at hl 1 rfl) ?_
        refine en_iald F Z 1 (mkd τ) rfl hk dX1_status_25 ?_
        refine en_if_ne (tgt := 33) F (Nat.lt_of_lt_of_le (hW.1 _ hk) (by decide)) dX1_status_26 (by decide) (fun c_4 => ?_) (fun c_4 => ?_)
        · skip
          refine lv_bipush (v := (-3)) F.1 F.2.1 dX1_status_33 (by decide) ?_
          refine ret _ _ _ _ _ _ rfl Z ?_ dX1_status_35
          exact ⟨by rw [if_neg c_4], rfl⟩
        · skip
          refine lv_iconst (v := (nI 0)) F.1 F.2.1 dX1_status_29 (by decide) ?_
          refine lv_goto (tgt := 35) F.1 F.2.1 dX1_status_30 (by decide) ?_
          refine ret _ _ _ _ _ _ rfl Z ?_ dX1_status_35
          exact ⟨by rw [if_pos c_4]; rfl, rfl⟩
      · exact absurd c_3 (by omega)
set_option maxHeartbeats 4000000 in
theorem m_status_b (l : Launch) (D : va_G) (G : ec_G) (h : Nat) (ad : Nat → Nat) (sz : Nat) (τ : MS) (s1 v1 : Int32) (hbad : ¬ (ec_sg s1 ∧ ec_vv v1)) : ec_Mi l yX1_status cX1_status 3 (some .int) 1 D G (MW G h ad) h [.int s1, .int v1] τ sz (fun r τ' => r = -1 ∧ τ' = τ) := by
  refine ec_walk_i RX1 (by decide) rfl (Nat.le_of_ble_eq_true rfl) ?_
  intro p e s m below meth c A args Q F hA ret Z ls hl
  have hl : lv_has ls 3 [(0, .ref h), (1, .int s1), (2, .int v1)] := hl
  refine lv_aload_n F.1 F.2.1 dX1_status_0 rfl (lv_at hl 0 rfl) ?_
  refine lv_iload_n F.1 F.2.1 dX1_status_1 rfl (lv_at hl 1 rfl) ?_
  by_cases hs_2 : ec_sg s1
  · skip
    refine ec_calli (Wf := MW G h ad) (σ := τ) (rest := []) F Z hA (m_sig1 l D G h ad _ τ s1 hs_2) (cwV 1 F.2.2.2.2 (lw_V q192 q194 qs13 q24 q195) rfl rfl rfl (by decide +kernel) ⟨Nat.le_of_ble_eq_true rfl, Nat.le_of_ble_eq_true rfl⟩) (em_recv Z) rfl hl.1 rfl (Nat.le_of_ble_eq_true rfl) dX1_status_2 ⟨Nat.le_of_ble_eq_true rfl, Nat.le_of_ble_eq_true rfl⟩ (fun r σ1 H locs hp Z => ?_)
    obtain ⟨hp1, hp2⟩ := hp
    rw [hp1]
    rw [hp2] at Z
    refine en_if_eq (tgt := 18) F (by omega) dX1_status_5 (by decide) (fun c_1 => ?_) (fun c_1 => ?_)
    · exact absurd c_1 (by decide)
    · skip
      refine lv_iload_n F.1 F.2.1 dX1_status_8 rfl (lv_at hl 2 rfl) ?_
      refine lv_if_lt (tgt := 18) F.1 F.2.1 dX1_status_9 (by decide) (fun c_2 => ?_) (fun c_2 => ?_)
      · skip
        refine lv_iconst (v := (-1)) F.1 F.2.1 dX1_status_18 (by decide) ?_
        refine ret _ _ _ _ _ _ rfl Z ?_ dX1_status_19
        exact ⟨rfl, rfl⟩
      · skip
        refine lv_iload_n F.1 F.2.1 dX1_status_12 rfl (lv_at hl 2 rfl) ?_
        refine lv_bipush (v := (nI 15)) F.1 F.2.1 dX1_status_13 (by decide) ?_
        refine lv_icmp_le (tgt := 20) F.1 F.2.1 dX1_status_15 (by decide) (fun c_3 => ?_) (fun c_3 => ?_)
        · skip
          exact absurd ⟨hs_2, c_2, ec_le15 c_3⟩ hbad
        · skip
          refine lv_iconst (v := (-1)) F.1 F.2.1 dX1_status_18 (by decide) ?_
          refine ret _ _ _ _ _ _ rfl Z ?_ dX1_status_19
          exact ⟨rfl, rfl⟩
  · skip
    refine ec_calli (Wf := MW G h ad) (σ := τ) (rest := []) F Z hA (m_sig0 l D G h ad _ τ s1 hs_2) (cwV 1 F.2.2.2.2 (lw_V q192 q194 qs13 q24 q195) rfl rfl rfl (by decide +kernel) ⟨Nat.le_of_ble_eq_true rfl, Nat.le_of_ble_eq_true rfl⟩) (em_recv Z) rfl hl.1 rfl (Nat.le_of_ble_eq_true rfl) dX1_status_2 ⟨Nat.le_of_ble_eq_true rfl, Nat.le_of_ble_eq_true rfl⟩ (fun r σ1 H locs hp Z => ?_)
    obtain ⟨hp1, hp2⟩ := hp
    rw [hp1]
    rw [hp2] at Z
    refine en_if_eq (tgt := 18) F (by omega) dX1_status_5 (by decide) (fun c_4 => ?_) (fun c_4 => ?_)
    · skip
      refine lv_iconst (v := (-1)) F.1 F.2.1 dX1_status_18 (by decide) ?_
      refine ret _ _ _ _ _ _ rfl Z ?_ dX1_status_19
      exact ⟨rfl, rfl⟩
    · exact absurd c_4 (by decide)
set_option maxHeartbeats 4000000 in
theorem m_set_m (l : Launch) (D : va_G) (G : ec_G) (h : Nat) (ad : Nat → Nat) (sz : Nat) (τ : MS) (k v : Nat) (hk : k < 12) (hv : v < 16) (hW : MWF τ) : ec_Mi l yX1_set cX1_set 6 (some .int) 3 D G (MW G h ad) h [.int (nI k), .int (nI v)] τ sz (fun r τ' => r = (m_set τ k v).1 ∧ τ' = (m_set τ k v).2) := by
  refine ec_walk_i RX1 (by decide) rfl (Nat.le_of_ble_eq_true rfl) ?_
  intro p e s m below meth c A args Q F hA ret Z ls hl
  have hl : lv_has ls 6 [(0, .ref h), (1, .int (nI k)), (2, .int (nI v))] := hl
  have hbf : ∀ i, i < 12 → mbf (m_change τ k v) i < 16 := m_bf_lt hW
  refine lv_aload_n F.1 F.2.1 dX1_set_0 rfl (lv_at hl 0 rfl) ?_
  refine lv_iload_n F.1 F.2.1 dX1_set_1 rfl (lv_at hl 1 rfl) ?_
  refine lv_iload_n F.1 F.2.1 dX1_set_2 rfl (lv_at hl 2 rfl) ?_
  by_cases c0 : mkd τ k = 0
  · skip
    refine ec_calli (Wf := MW G h ad) (σ := τ) (rest := []) F Z hA (m_status_m l D G h ad _ τ k v hk hv hW) (cwV 2 F.2.2.2.2 (lw_V q232 q234 qs20 q24 q235) rfl rfl rfl (by decide +kernel) ⟨Nat.le_of_ble_eq_true rfl, Nat.le_of_ble_eq_true rfl⟩) (em_recv Z) rfl hl.1 rfl (Nat.le_of_ble_eq_true rfl) dX1_set_3 ⟨Nat.le_of_ble_eq_true rfl, Nat.le_of_ble_eq_true rfl⟩ (fun r σ1 H locs hp Z => ?_)
    obtain ⟨hp1, hp2⟩ := hp
    have hp1 : r = nI 0 := by rw [hp1, if_pos c0]; rfl
    rw [hp1]
    rw [hp2] at Z
    refine lv_istore_n (lv' := [(3, .int (nI 0)), (0, .ref h), (1, .int (nI k)), (2, .int (nI v))]) F.1 F.2.1 dX1_set_6 rfl hl (by decide) rfl (fun ls hl => ?_)
    refine lv_iload_n F.1 F.2.1 dX1_set_7 rfl (lv_at hl 0 rfl) ?_
    refine lv_if_ge (tgt := 13) F.1 F.2.1 dX1_set_8 (by decide) (fun c_1 => ?_) (fun c_1 => ?_)
    · skip
      refine lv_aload_n F.1 F.2.1 dX1_set_13 rfl (lv_at hl 1 rfl) ?_
      refine lv_iload_n F.1 F.2.1 dX1_set_14 rfl (lv_at hl 2 rfl) ?_
      refine lv_iload_n F.1 F.2.1 dX1_set_15 rfl (lv_at hl 3 rfl) ?_
      refine ec_calli (Wf := MW G h ad) (σ := τ) (rest := []) F Z hA (m_change_m l D G h ad _ τ k v hk hv hW) (cwV 2 F.2.2.2.2 (lw_V q236 q238 qs21 q24 q239) rfl rfl rfl (by decide +kernel) ⟨Nat.le_of_ble_eq_true rfl, Nat.le_of_ble_eq_true rfl⟩) (em_recv Z) rfl hl.1 rfl (Nat.le_of_ble_eq_true rfl) dX1_set_16 ⟨Nat.le_of_ble_eq_true rfl, Nat.le_of_ble_eq_true rfl⟩ (fun r σ1 H locs hp Z => ?_)
      have hp2 : σ1 = m_change τ k v := hp.2
      rw [hp2] at Z
      refine lv_pop F.1 F.2.1 dX1_set_19 rfl ?_
      refine lv_iconst (v := (nI 0)) F.1 F.2.1 dX1_set_20 (by decide) ?_
      refine lv_istore (lv' := [(4, .int (nI 0)), (3, .int (nI 0)), (0, .ref h), (1, .int (nI k)), (2, .int (nI v))]) F.1 F.2.1 dX1_set_21 hl (by decide) rfl (fun ls hl => ?_)
      refine lv_iconst (v := (nI 0)) F.1 F.2.1 dX1_set_23 (by decide) ?_
      refine lv_istore (lv' := [(5, .int (nI 0)), (4, .int (nI 0)), (3, .int (nI 0)), (0, .ref h), (1, .int (nI k)), (2, .int (nI v))]) F.1 F.2.1 dX1_set_24 hl (by decide) rfl (fun ls hl => ?_)
      refine ec_lp_run (S := Nat) (ec_df (mvl (m_change τ k v)) (mbf (m_change τ k v))) (fun i z => True) (fun i z => ∀ (H : Heap) (locs : List Loc), ec_Z D G A s (MW G h ad (m_change τ k v)) H locs → ∀ ls : Array Slot, lv_has ls 6 [(5, .int (nI i)), (4, .int (nI z)), (0, .ref h)] → W p l e (ec_rm 3) s m args below meth c H locs 0 0 Q (F0 m 26 ls [])) 12 (fun _ _ _ _ => trivial) ?_ 12 0 0 (Nat.zero_add _) trivial ?_ _ _ Z ls (lv_sub hl [0, 1, 3] rfl)
      · intro i z hi_i hz_i kk_i H locs Z ls hl
        refine lv_iload F.1 F.2.1 dX1_set_26 (lv_at hl 0 rfl) ?_
        refine lv_bipush (v := (nI 12)) F.1 F.2.1 dX1_set_28 (by decide) ?_
        refine en_icmp_ge (tgt := 59) F (Nat.lt_of_lt_of_le hi_i (by decide)) (by omega) dX1_set_30 (by decide) (fun c_2 => ?_) (fun c_2 => ?_)
        · exact absurd hi_i (Nat.not_lt.mpr c_2)
        · skip
          refine lv_aload_n F.1 F.2.1 dX1_set_33 rfl (lv_at hl 2 rfl) ?_
          refine em_get F Z 5 (by decide) rfl rfl q168 dX1_set_34 ?_
          refine lv_iload F.1 F.2.1 dX1_set_37 (lv_at hl 0 rfl) ?_
          refine en_iald F Z 6 (mvl (m_change τ k v)) rfl hi_i dX1_set_39 ?_
          refine lv_aload_n F.1 F.2.1 dX1_set_40 rfl (lv_at hl 2 rfl) ?_
          refine em_get F Z 6 (by decide) rfl rfl q169 dX1_set_41 ?_
          refine lv_iload F.1 F.2.1 dX1_set_44 (lv_at hl 0 rfl) ?_
          refine en_iald F Z 7 (mbf (m_change τ k v)) rfl hi_i dX1_set_46 ?_
          refine en_icmp_eq (tgt := 53) F (Nat.lt_of_lt_of_le (((mwf_change hW hv).2.2.2.2.2) _ hi_i) (by decide)) (Nat.lt_of_lt_of_le (hbf _ hi_i) (by decide)) dX1_set_47 (by decide) (fun c_3 => ?_) (fun c_3 => ?_)
          · skip
            refine en_iinc (lv' := [(5, .int (nI (i + 1))), (4, .int (nI z)), (0, .ref h)]) F dX1_set_53 hl (k := 0) rfl (by decide) rfl (fun ls hl => ?_)
            refine lv_goto (tgt := 26) F.1 F.2.1 dX1_set_56 (by decide) ?_
            have ez : (ec_df (mvl (m_change τ k v)) (mbf (m_change τ k v))) i z = z := by exact if_pos c_3
            rw [ez] at kk_i
            exact kk_i _ _ Z ls (lv_sub hl [0, 1, 2] rfl)
          · skip
            refine en_iinc (lv' := [(4, .int (nI (z + 1))), (5, .int (nI i)), (0, .ref h)]) F dX1_set_50 hl (k := 1) rfl (by decide) rfl (fun ls hl => ?_)
            refine en_iinc (lv' := [(5, .int (nI (i + 1))), (4, .int (nI (z + 1))), (0, .ref h)]) F dX1_set_53 hl (k := 1) rfl (by decide) rfl (fun ls hl => ?_)
            refine lv_goto (tgt := 26) F.1 F.2.1 dX1_set_56 (by decide) ?_
            have ez : (ec_df (mvl (m_change τ k v)) (mbf (m_change τ k v))) i z = (z + 1) := by exact if_neg c_3
            rw [ez] at kk_i
            exact kk_i _ _ Z ls (lv_sub hl [0, 1, 2] rfl)
      · intro H locs Z ls hl
        refine lv_iload F.1 F.2.1 dX1_set_26 (lv_at hl 0 rfl) ?_
        refine lv_bipush (v := (nI 12)) F.1 F.2.1 dX1_set_28 (by decide) ?_
        refine en_icmp_ge (tgt := 59) F (by omega) (by omega) dX1_set_30 (by decide) (fun c_4 => ?_) (fun c_4 => ?_)
        · skip
          refine lv_iload F.1 F.2.1 dX1_set_59 (lv_at hl 1 rfl) ?_
          refine ret _ _ _ _ _ _ rfl Z ?_ dX1_set_61
          unfold m_set
          rw [if_pos c0]
          exact ⟨rfl, rfl⟩
        · exact absurd c_4 (by decide)
    · exact absurd (by decide) c_1
  · skip
    refine ec_calli (Wf := MW G h ad) (σ := τ) (rest := []) F Z hA (m_status_m l D G h ad _ τ k v hk hv hW) (cwV 2 F.2.2.2.2 (lw_V q232 q234 qs20 q24 q235) rfl rfl rfl (by decide +kernel) ⟨Nat.le_of_ble_eq_true rfl, Nat.le_of_ble_eq_true rfl⟩) (em_recv Z) rfl hl.1 rfl (Nat.le_of_ble_eq_true rfl) dX1_set_3 ⟨Nat.le_of_ble_eq_true rfl, Nat.le_of_ble_eq_true rfl⟩ (fun r σ1 H locs hp Z => ?_)
    obtain ⟨hp1, hp2⟩ := hp
    have hp1 : r = -3 := by rw [hp1, if_neg c0]
    rw [hp1]
    rw [hp2] at Z
    refine lv_istore_n (lv' := [(3, .int (-3)), (0, .ref h), (1, .int (nI k)), (2, .int (nI v))]) F.1 F.2.1 dX1_set_6 rfl hl (by decide) rfl (fun ls hl => ?_)
    refine lv_iload_n F.1 F.2.1 dX1_set_7 rfl (lv_at hl 0 rfl) ?_
    refine lv_if_ge (tgt := 13) F.1 F.2.1 dX1_set_8 (by decide) (fun c_5 => ?_) (fun c_5 => ?_)
    · exact absurd c_5 (by decide)
    · skip
      refine lv_iload_n F.1 F.2.1 dX1_set_11 rfl (lv_at hl 0 rfl) ?_
      refine ret _ _ _ _ _ _ rfl Z ?_ dX1_set_12
      unfold m_set
      rw [if_neg c0]
      exact ⟨rfl, rfl⟩
set_option maxHeartbeats 4000000 in
theorem m_pulse_m (l : Launch) (D : va_G) (G : ec_G) (h : Nat) (ad : Nat → Nat) (sz : Nat) (τ : MS) (k v : Nat) (n : Int32) (hk : k < 12) (hv : v < 16) (hW : MWF τ) : ec_Mi l yX1_pulse cX1_pulse 9 (some .int) 3 D G (MW G h ad) h [.int (nI k), .int (nI v), .int n] τ sz (fun r τ' => r = (m_pulseR τ k v (ec_tm n)).1 ∧ τ' = (m_pulseR τ k v (ec_tm n)).2) := by
  refine ec_walk_i RX1 (by decide) rfl (Nat.le_of_ble_eq_true rfl) ?_
  intro p e s m below meth c A args Q F hA ret Z ls hl
  have hl : lv_has ls 9 [(0, .ref h), (1, .int (nI k)), (2, .int (nI v)), (3, .int n)] := hl
  have ht := ec_tm_le n
  have hf : mvl τ k < 16 := hW.2.2.2.2.2 k hk
  refine lv_aload_n F.1 F.2.1 dX1_pulse_0 rfl (lv_at hl 0 rfl) ?_
  refine lv_iload_n F.1 F.2.1 dX1_pulse_1 rfl (lv_at hl 1 rfl) ?_
  refine lv_iload_n F.1 F.2.1 dX1_pulse_2 rfl (lv_at hl 2 rfl) ?_
  by_cases c0 : mkd τ k = 0
  · skip
    refine ec_calli (Wf := MW G h ad) (σ := τ) (rest := []) F Z hA (m_status_m l D G h ad _ τ k v hk hv hW) (cwV 2 F.2.2.2.2 (lw_V q232 q234 qs20 q24 q235) rfl rfl rfl (by decide +kernel) ⟨Nat.le_of_ble_eq_true rfl, Nat.le_of_ble_eq_true rfl⟩) (em_recv Z) rfl hl.1 rfl (Nat.le_of_ble_eq_true rfl) dX1_pulse_3 ⟨Nat.le_of_ble_eq_true rfl, Nat.le_of_ble_eq_true rfl⟩ (fun r σ1 H locs hp Z => ?_)
    obtain ⟨hp1, hp2⟩ := hp
    have hp1 : r = nI 0 := by rw [hp1, if_pos c0]; rfl
    rw [hp1]
    rw [hp2] at Z
    refine lv_istore (lv' := [(4, .int (nI 0)), (0, .ref h), (1, .int (nI k)), (2, .int (nI v)), (3, .int n)]) F.1 F.2.1 dX1_pulse_6 hl (by decide) rfl (fun ls hl => ?_)
    refine lv_iload F.1 F.2.1 dX1_pulse_8 (lv_at hl 0 rfl) ?_
    refine lv_if_ge (tgt := 16) F.1 F.2.1 dX1_pulse_10 (by decide) (fun c_1 => ?_) (fun c_1 => ?_)
    · skip
      refine lv_iload_n F.1 F.2.1 dX1_pulse_16 rfl (lv_at hl 4 rfl) ?_
      refine lv_if_ge (tgt := 24) F.1 F.2.1 dX1_pulse_17 (by decide) (fun c_2 => ?_) (fun c_2 => ?_)
      · skip
        refine lv_iload_n F.1 F.2.1 dX1_pulse_24 rfl (lv_at hl 4 rfl) ?_
        refine lv_bipush (v := (nI 16)) F.1 F.2.1 dX1_pulse_25 (by decide) ?_
        refine lv_icmp_le (tgt := 35) F.1 F.2.1 dX1_pulse_27 (by decide) (fun c_3 => ?_) (fun c_3 => ?_)
        · skip
          refine lv_iload_n F.1 F.2.1 dX1_pulse_35 rfl (lv_at hl 4 rfl) ?_
          have e9 : n = nI (ec_tm n) := (ec_tm_mid (ec_ge1 c_2) (ec_le1 c_3)).2
          refine W.eq (g2 := F0 m 36 ls [.int (nI (ec_tm n))]) (by rw [← e9]) ?_
          refine lv_istore (lv' := [(5, .int (nI (ec_tm n))), (4, .int (nI 0)), (0, .ref h), (1, .int (nI k)), (2, .int (nI v)), (3, .int n)]) F.1 F.2.1 dX1_pulse_36 hl (by decide) rfl (fun ls hl => ?_)
          refine lv_aload_n F.1 F.2.1 dX1_pulse_38 rfl (lv_at hl 2 rfl) ?_
          refine em_get F Z 5 (by decide) rfl rfl q168 dX1_pulse_39 ?_
          refine lv_iload_n F.1 F.2.1 dX1_pulse_42 rfl (lv_at hl 3 rfl) ?_
          refine en_iald F Z 6 (mvl τ) rfl hk dX1_pulse_43 ?_
          refine lv_istore (lv' := [(6, .int (nI (mvl τ k))), (5, .int (nI (ec_tm n))), (4, .int (nI 0)), (0, .ref h), (1, .int (nI k)), (2, .int (nI v)), (3, .int n)]) F.1 F.2.1 dX1_pulse_44 hl (by decide) rfl (fun ls hl => ?_)
          refine lv_iconst (v := (nI 0)) F.1 F.2.1 dX1_pulse_46 (by decide) ?_
          refine lv_istore (lv' := [(7, .int (nI 0)), (6, .int (nI (mvl τ k))), (5, .int (nI (ec_tm n))), (4, .int (nI 0)), (0, .ref h), (1, .int (nI k)), (2, .int (nI v)), (3, .int n)]) F.1 F.2.1 dX1_pulse_47 hl (by decide) rfl (fun ls hl => ?_)
          refine lv_iconst (v := (nI 0)) F.1 F.2.1 dX1_pulse_49 (by decide) ?_
          refine lv_istore (lv' := [(8, .int (nI 0)), (7, .int (nI 0)), (6, .int (nI (mvl τ k))), (5, .int (nI (ec_tm n))), (4, .int (nI 0)), (0, .ref h), (1, .int (nI k)), (2, .int (nI v)), (3, .int n)]) F.1 F.2.1 dX1_pulse_50 hl (by decide) rfl (fun ls hl => ?_)
          refine ec_lp_run (S := Nat × MS) (m_pu k v (mvl τ k)) (fun i z => MWF z.2) (fun i z => ∀ (H : Heap) (locs : List Loc), ec_Z D G A s (MW G h ad z.2) H locs → ∀ ls : Array Slot, lv_has ls 9 [(8, .int (nI i)), (7, .int (nI z.1)), (0, .ref h), (1, .int (nI k)), (2, .int (nI v)), (6, .int (nI (mvl τ k))), (5, .int (nI (ec_tm n)))] → W p l e (ec_rm 3) s m args below meth c H locs 0 0 Q (F0 m 52 ls [])) (ec_tm n) (fun i _ _ h => m_pu_wf hv hf i h) ?_ (ec_tm n) 0 (0, τ) (Nat.zero_add _) hW ?_ _ _ Z ls (lv_sub hl [0, 1, 5, 6, 7, 2, 3] rfl)
          · intro i z hi_i hz_i kk_i H locs Z ls hl
            refine lv_iload F.1 F.2.1 dX1_pulse_52 (lv_at hl 0 rfl) ?_
            refine lv_iload F.1 F.2.1 dX1_pulse_54 (lv_at hl 6 rfl) ?_
            refine en_icmp_ge (tgt := 88) F (by omega) (by omega) dX1_pulse_56 (by decide) (fun c_4 => ?_) (fun c_4 => ?_)
            · exact absurd hi_i (Nat.not_lt.mpr c_4)
            · skip
              refine lv_iload F.1 F.2.1 dX1_pulse_59 (lv_at hl 1 rfl) ?_
              refine lv_aload_n F.1 F.2.1 dX1_pulse_61 rfl (lv_at hl 2 rfl) ?_
              refine lv_iload_n F.1 F.2.1 dX1_pulse_62 rfl (lv_at hl 3 rfl) ?_
              refine lv_iload_n F.1 F.2.1 dX1_pulse_63 rfl (lv_at hl 4 rfl) ?_
              refine ec_calli (Wf := MW G h ad) (σ := z.2) (rest := [.int (nI z.1)]) F Z hA (m_change_m l D G h ad _ z.2 k v hk hv hz_i) (cwV 2 F.2.2.2.2 (lw_V q236 q238 qs21 q24 q239) rfl rfl rfl (by decide +kernel) ⟨Nat.le_of_ble_eq_true rfl, Nat.le_of_ble_eq_true rfl⟩) (em_recv Z) rfl hl.1 rfl (Nat.le_of_ble_eq_true rfl) dX1_pulse_64 ⟨Nat.le_of_ble_eq_true rfl, Nat.le_of_ble_eq_true rfl⟩ (fun r σ1 H locs hp Z => ?_)
              obtain ⟨hp1, hp2⟩ := hp
              rw [hp1]
              rw [hp2] at Z
              refine en_iadd F dX1_pulse_67 ?_
              refine lv_istore (lv' := [(7, .int (nI (z.1 + ((m_rg z.2 k v).1)))), (8, .int (nI i)), (0, .ref h), (1, .int (nI k)), (2, .int (nI v)), (6, .int (nI (mvl τ k))), (5, .int (nI (ec_tm n)))]) F.1 F.2.1 dX1_pulse_68 hl (by decide) rfl (fun ls hl => ?_)
              refine lv_iload F.1 F.2.1 dX1_pulse_70 (lv_at hl 0 rfl) ?_
              refine lv_aload_n F.1 F.2.1 dX1_pulse_72 rfl (lv_at hl 2 rfl) ?_
              refine lv_iload_n F.1 F.2.1 dX1_pulse_73 rfl (lv_at hl 3 rfl) ?_
              refine lv_iload F.1 F.2.1 dX1_pulse_74 (lv_at hl 5 rfl) ?_
              refine ec_calli (Wf := MW G h ad) (σ := m_change z.2 k v) (rest := [.int (nI (z.1 + ((m_rg z.2 k v).1)))]) F Z hA (m_change_m l D G h ad _ (m_change z.2 k v) k (mvl τ k) hk hf (mwf_change hz_i hv)) (cwV 2 F.2.2.2.2 (lw_V q236 q238 qs21 q24 q239) rfl rfl rfl (by decide +kernel) ⟨Nat.le_of_ble_eq_true rfl, Nat.le_of_ble_eq_true rfl⟩) (em_recv Z) rfl hl.1 rfl (Nat.le_of_ble_eq_true rfl) dX1_pulse_76 ⟨Nat.le_of_ble_eq_true rfl, Nat.le_of_ble_eq_true rfl⟩ (fun r σ1 H locs hp Z => ?_)
              obtain ⟨hp1, hp2⟩ := hp
              rw [hp1]
              rw [hp2] at Z
              refine en_iadd F dX1_pulse_79 ?_
              refine lv_istore (lv' := [(7, .int (nI (z.1 + ((m_rg z.2 k v).1) + ((m_rg (m_change z.2 k v) k (mvl τ k)).1)))), (8, .int (nI i)), (0, .ref h), (1, .int (nI k)), (2, .int (nI v)), (6, .int (nI (mvl τ k))), (5, .int (nI (ec_tm n)))]) F.1 F.2.1 dX1_pulse_80 hl (by decide) rfl (fun ls hl => ?_)
              refine en_iinc (lv' := [(8, .int (nI (i + 1))), (7, .int (nI (z.1 + ((m_rg z.2 k v).1) + ((m_rg (m_change z.2 k v) k (mvl τ k)).1)))), (0, .ref h), (1, .int (nI k)), (2, .int (nI v)), (6, .int (nI (mvl τ k))), (5, .int (nI (ec_tm n)))]) F dX1_pulse_82 hl (k := 1) rfl (by decide) rfl (fun ls hl => ?_)
              refine lv_goto (tgt := 52) F.1 F.2.1 dX1_pulse_85 (by decide) ?_
              exact kk_i _ _ Z ls (lv_sub hl [0, 1, 2, 3, 4, 5, 6] rfl)
          · intro H locs Z ls hl
            refine lv_iload F.1 F.2.1 dX1_pulse_52 (lv_at hl 0 rfl) ?_
            refine lv_iload F.1 F.2.1 dX1_pulse_54 (lv_at hl 6 rfl) ?_
            refine en_icmp_ge (tgt := 88) F (by omega) (by omega) dX1_pulse_56 (by decide) (fun c_5 => ?_) (fun c_5 => ?_)
            · skip
              refine lv_iload F.1 F.2.1 dX1_pulse_88 (lv_at hl 1 rfl) ?_
              refine ret _ _ _ _ _ _ rfl Z ?_ dX1_pulse_90
              unfold m_pulseR
              rw [if_pos c0]
              exact ⟨rfl, rfl⟩
            · exact absurd c_5 (Nat.lt_irrefl _)
        · skip
          refine lv_bipush (v := (nI 16)) F.1 F.2.1 dX1_pulse_30 (by decide) ?_
          refine lv_goto (tgt := 36) F.1 F.2.1 dX1_pulse_32 (by decide) ?_
          have e9 : nI 16 = nI (ec_tm n) := by rw [ec_tm_big (ec_ge1 c_2) (ec_le0 c_3)]
          refine W.eq (g2 := F0 m 36 ls [.int (nI (ec_tm n))]) (by rw [← e9]) ?_
          refine lv_istore (lv' := [(5, .int (nI (ec_tm n))), (4, .int (nI 0)), (0, .ref h), (1, .int (nI k)), (2, .int (nI v)), (3, .int n)]) F.1 F.2.1 dX1_pulse_36 hl (by decide) rfl (fun ls hl => ?_)
          refine lv_aload_n F.1 F.2.1 dX1_pulse_38 rfl (lv_at hl 2 rfl) ?_
          refine em_get F Z 5 (by decide) rfl rfl q168 dX1_pulse_39 ?_
          refine lv_iload_n F.1 F.2.1 dX1_pulse_42 rfl (lv_at hl 3 rfl) ?_
          refine en_iald F Z 6 (mvl τ) rfl hk dX1_pulse_43 ?_
          refine lv_istore (lv' := [(6, .int (nI (mvl τ k))), (5, .int (nI (ec_tm n))), (4, .int (nI 0)), (0, .ref h), (1, .int (nI k)), (2, .int (nI v)), (3, .int n)]) F.1 F.2.1 dX1_pulse_44 hl (by decide) rfl (fun ls hl => ?_)
          refine lv_iconst (v := (nI 0)) F.1 F.2.1 dX1_pulse_46 (by decide) ?_
          refine lv_istore (lv' := [(7, .int (nI 0)), (6, .int (nI (mvl τ k))), (5, .int (nI (ec_tm n))), (4, .int (nI 0)), (0, .ref h), (1, .int (nI k)), (2, .int (nI v)), (3, .int n)]) F.1 F.2.1 dX1_pulse_47 hl (by decide) rfl (fun ls hl => ?_)
          refine lv_iconst (v := (nI 0)) F.1 F.2.1 dX1_pulse_49 (by decide) ?_
          refine lv_istore (lv' := [(8, .int (nI 0)), (7, .int (nI 0)), (6, .int (nI (mvl τ k))), (5, .int (nI (ec_tm n))), (4, .int (nI 0)), (0, .ref h), (1, .int (nI k)), (2, .int (nI v)), (3, .int n)]) F.1 F.2.1 dX1_pulse_50 hl (by decide) rfl (fun ls hl => ?_)
          refine ec_lp_run (S := Nat × MS) (m_pu k v (mvl τ k)) (fun i z => MWF z.2) (fun i z => ∀ (H : Heap) (locs : List Loc), ec_Z D G A s (MW G h ad z.2) H locs → ∀ ls : Array Slot, lv_has ls 9 [(8, .int (nI i)), (7, .int (nI z.1)), (0, .ref h), (1, .int (nI k)), (2, .int (nI v)), (6, .int (nI (mvl τ k))), (5, .int (nI (ec_tm n)))] → W p l e (ec_rm 3) s m args below meth c H locs 0 0 Q (F0 m 52 ls [])) (ec_tm n) (fun i _ _ h => m_pu_wf hv hf i h) ?_ (ec_tm n) 0 (0, τ) (Nat.zero_add _) hW ?_ _ _ Z ls (lv_sub hl [0, 1, 5, 6, 7, 2, 3] rfl)
          · intro i z hi_i hz_i kk_i H locs Z ls hl
            refine lv_iload F.1 F.2.1 dX1_pulse_52 (lv_at hl 0 rfl) ?_
            refine lv_iload F.1 F.2.1 dX1_pulse_54 (lv_at hl 6 rfl) ?_
            refine en_icmp_ge (tgt := 88) F (by omega) (by omega) dX1_pulse_56 (by decide) (fun c_6 => ?_) (fun c_6 => ?_)
            · exact absurd hi_i (Nat.not_lt.mpr c_6)
            · skip
              refine lv_iload F.1 F.2.1 dX1_pulse_59 (lv_at hl 1 rfl) ?_
              refine lv_aload_n F.1 F.2.1 dX1_pulse_61 rfl (lv_at hl 2 rfl) ?_
              refine lv_iload_n F.1 F.2.1 dX1_pulse_62 rfl (lv_at hl 3 rfl) ?_
              refine lv_iload_n F.1 F.2.1 dX1_pulse_63 rfl (lv_at hl 4 rfl) ?_
              refine ec_calli (Wf := MW G h ad) (σ := z.2) (rest := [.int (nI z.1)]) F Z hA (m_change_m l D G h ad _ z.2 k v hk hv hz_i) (cwV 2 F.2.2.2.2 (lw_V q236 q238 qs21 q24 q239) rfl rfl rfl (by decide +kernel) ⟨Nat.le_of_ble_eq_true rfl, Nat.le_of_ble_eq_true rfl⟩) (em_recv Z) rfl hl.1 rfl (Nat.le_of_ble_eq_true rfl) dX1_pulse_64 ⟨Nat.le_of_ble_eq_true rfl, Nat.le_of_ble_eq_true rfl⟩ (fun r σ1 H locs hp Z => ?_)
              obtain ⟨hp1, hp2⟩ := hp
              rw [hp1]
              rw [hp2] at Z
              refine en_iadd F dX1_pulse_67 ?_
              refine lv_istore (lv' := [(7, .int (nI (z.1 + ((m_rg z.2 k v).1)))), (8, .int (nI i)), (0, .ref h), (1, .int (nI k)), (2, .int (nI v)), (6, .int (nI (mvl τ k))), (5, .int (nI (ec_tm n)))]) F.1 F.2.1 dX1_pulse_68 hl (by decide) rfl (fun ls hl => ?_)
              refine lv_iload F.1 F.2.1 dX1_pulse_70 (lv_at hl 0 rfl) ?_
              refine lv_aload_n F.1 F.2.1 dX1_pulse_72 rfl (lv_at hl 2 rfl) ?_
              refine lv_iload_n F.1 F.2.1 dX1_pulse_73 rfl (lv_at hl 3 rfl) ?_
              refine lv_iload F.1 F.2.1 dX1_pulse_74 (lv_at hl 5 rfl) ?_
              refine ec_calli (Wf := MW G h ad) (σ := m_change z.2 k v) (rest := [.int (nI (z.1 + ((m_rg z.2 k v).1)))]) F Z hA (m_change_m l D G h ad _ (m_change z.2 k v) k (mvl τ k) hk hf (mwf_change hz_i hv)) (cwV 2 F.2.2.2.2 (lw_V q236 q238 qs21 q24 q239) rfl rfl rfl (by decide +kernel) ⟨Nat.le_of_ble_eq_true rfl, Nat.le_of_ble_eq_true rfl⟩) (em_recv Z) rfl hl.1 rfl (Nat.le_of_ble_eq_true rfl) dX1_pulse_76 ⟨Nat.le_of_ble_eq_true rfl, Nat.le_of_ble_eq_true rfl⟩ (fun r σ1 H locs hp Z => ?_)
              obtain ⟨hp1, hp2⟩ := hp
              rw [hp1]
              rw [hp2] at Z
              refine en_iadd F dX1_pulse_79 ?_
              refine lv_istore (lv' := [(7, .int (nI (z.1 + ((m_rg z.2 k v).1) + ((m_rg (m_change z.2 k v) k (mvl τ k)).1)))), (8, .int (nI i)), (0, .ref h), (1, .int (nI k)), (2, .int (nI v)), (6, .int (nI (mvl τ k))), (5, .int (nI (ec_tm n)))]) F.1 F.2.1 dX1_pulse_80 hl (by decide) rfl (fun ls hl => ?_)
              refine en_iinc (lv' := [(8, .int (nI (i + 1))), (7, .int (nI (z.1 + ((m_rg z.2 k v).1) + ((m_rg (m_change z.2 k v) k (mvl τ k)).1)))), (0, .ref h), (1, .int (nI k)), (2, .int (nI v)), (6, .int (nI (mvl τ k))), (5, .int (nI (ec_tm n)))]) F dX1_pulse_82 hl (k := 1) rfl (by decide) rfl (fun ls hl => ?_)
              refine lv_goto (tgt := 52) F.1 F.2.1 dX1_pulse_85 (by decide) ?_
              exact kk_i _ _ Z ls (lv_sub hl [0, 1, 2, 3, 4, 5, 6] rfl)
          · intro H locs Z ls hl
            refine lv_iload F.1 F.2.1 dX1_pulse_52 (lv_at hl 0 rfl) ?_
            refine lv_iload F.1 F.2.1 dX1_pulse_54 (lv_at hl 6 rfl) ?_
            refine en_icmp_ge (tgt := 88) F (by omega) (by omega) dX1_pulse_56 (by decide) (fun c_7 => ?_) (fun c_7 => ?_)
            · skip
              refine lv_iload F.1 F.2.1 dX1_pulse_88 (lv_at hl 1 rfl) ?_
              refine ret _ _ _ _ _ _ rfl Z ?_ dX1_pulse_90
              unfold m_pulseR
              rw [if_pos c0]
              exact ⟨rfl, rfl⟩
            · exact absurd c_7 (Nat.lt_irrefl _)
      · skip
        refine lv_iconst (v := (nI 0)) F.1 F.2.1 dX1_pulse_20 (by decide) ?_
        refine lv_goto (tgt := 36) F.1 F.2.1 dX1_pulse_21 (by decide) ?_
        have e9 : nI 0 = nI (ec_tm n) := by rw [ec_tm_neg (ec_ge0 c_2)]
        refine W.eq (g2 := F0 m 36 ls [.int (nI (ec_tm n))]) (by rw [← e9]) ?_
        refine lv_istore (lv' := [(5, .int (nI (ec_tm n))), (4, .int (nI 0)), (0, .ref h), (1, .int (nI k)), (2, .int (nI v)), (3, .int n)]) F.1 F.2.1 dX1_pulse_36 hl (by decide) rfl (fun ls hl => ?_)
        refine lv_aload_n F.1 F.2.1 dX1_pulse_38 rfl (lv_at hl 2 rfl) ?_
        refine em_get F Z 5 (by decide) rfl rfl q168 dX1_pulse_39 ?_
        refine lv_iload_n F.1 F.2.1 dX1_pulse_42 rfl (lv_at hl 3 rfl) ?_
        refine en_iald F Z 6 (mvl τ) rfl hk dX1_pulse_43 ?_
        refine lv_istore (lv' := [(6, .int (nI (mvl τ k))), (5, .int (nI (ec_tm n))), (4, .int (nI 0)), (0, .ref h), (1, .int (nI k)), (2, .int (nI v)), (3, .int n)]) F.1 F.2.1 dX1_pulse_44 hl (by decide) rfl (fun ls hl => ?_)
        refine lv_iconst (v := (nI 0)) F.1 F.2.1 dX1_pulse_46 (by decide) ?_
        refine lv_istore (lv' := [(7, .int (nI 0)), (6, .int (nI (mvl τ k))), (5, .int (nI (ec_tm n))), (4, .int (nI 0)), (0, .ref h), (1, .int (nI k)), (2, .int (nI v)), (3, .int n)]) F.1 F.2.1 dX1_pulse_47 hl (by decide) rfl (fun ls hl => ?_)
        refine lv_iconst (v := (nI 0)) F.1 F.2.1 dX1_pulse_49 (by decide) ?_
        refine lv_istore (lv' := [(8, .int (nI 0)), (7, .int (nI 0)), (6, .int (nI (mvl τ k))), (5, .int (nI (ec_tm n))), (4, .int (nI 0)), (0, .ref h), (1, .int (nI k)), (2, .int (nI v)), (3, .int n)]) F.1 F.2.1 dX1_pulse_50 hl (by decide) rfl (fun ls hl => ?_)
        refine ec_lp_run (S := Nat × MS) (m_pu k v (mvl τ k)) (fun i z => MWF z.2) (fun i z => ∀ (H : Heap) (locs : List Loc), ec_Z D G A s (MW G h ad z.2) H locs → ∀ ls : Array Slot, lv_has ls 9 [(8, .int (nI i)), (7, .int (nI z.1)), (0, .ref h), (1, .int (nI k)), (2, .int (nI v)), (6, .int (nI (mvl τ k))), (5, .int (nI (ec_tm n)))] → W p l e (ec_rm 3) s m args below meth c H locs 0 0 Q (F0 m 52 ls [])) (ec_tm n) (fun i _ _ h => m_pu_wf hv hf i h) ?_ (ec_tm n) 0 (0, τ) (Nat.zero_add _) hW ?_ _ _ Z ls (lv_sub hl [0, 1, 5, 6, 7, 2, 3] rfl)
        · intro i z hi_i hz_i kk_i H locs Z ls hl
          refine lv_iload F.1 F.2.1 dX1_pulse_52 (lv_at hl 0 rfl) ?_
          refine lv_iload F.1 F.2.1 dX1_pulse_54 (lv_at hl 6 rfl) ?_
          refine en_icmp_ge (tgt := 88) F (by omega) (by omega) dX1_pulse_56 (by decide) (fun c_8 => ?_) (fun c_8 => ?_)
          · exact absurd hi_i (Nat.not_lt.mpr c_8)
          · skip
            refine lv_iload F.1 F.2.1 dX1_pulse_59 (lv_at hl 1 rfl) ?_
            refine lv_aload_n F.1 F.2.1 dX1_pulse_61 rfl (lv_at hl 2 rfl) ?_
            refine lv_iload_n F.1 F.2.1 dX1_pulse_62 rfl (lv_at hl 3 rfl) ?_
            refine lv_iload_n F.1 F.2.1 dX1_pulse_63 rfl (lv_at hl 4 rfl) ?_
            refine ec_calli (Wf := MW G h ad) (σ := z.2) (rest := [.int (nI z.1)]) F Z hA (m_change_m l D G h ad _ z.2 k v hk hv hz_i) (cwV 2 F.2.2.2.2 (lw_V q236 q238 qs21 q24 q239) rfl rfl rfl (by decide +kernel) ⟨Nat.le_of_ble_eq_true rfl, Nat.le_of_ble_eq_true rfl⟩) (em_recv Z) rfl hl.1 rfl (Nat.le_of_ble_eq_true rfl) dX1_pulse_64 ⟨Nat.le_of_ble_eq_true rfl, Nat.le_of_ble_eq_true rfl⟩ (fun r σ1 H locs hp Z => ?_)
            obtain ⟨hp1, hp2⟩ := hp
            rw [hp1]
            rw [hp2] at Z
            refine en_iadd F dX1_pulse_67 ?_
            refine lv_istore (lv' := [(7, .int (nI (z.1 + ((m_rg z.2 k v).1)))), (8, .int (nI i)), (0, .ref h), (1, .int (nI k)), (2, .int (nI v)), (6, .int (nI (mvl τ k))), (5, .int (nI (ec_tm n)))]) F.1 F.2.1 dX1_pulse_68 hl (by decide) rfl (fun ls hl => ?_)
            refine lv_iload F.1 F.2.1 dX1_pulse_70 (lv_at hl 0 rfl) ?_
            refine lv_aload_n F.1 F.2.1 dX1_pulse_72 rfl (lv_at hl 2 rfl) ?_
            refine lv_iload_n F.1 F.2.1 dX1_pulse_73 rfl (lv_at hl 3 rfl) ?_
            refine lv_iload F.1 F.2.1 dX1_pulse_74 (lv_at hl 5 rfl) ?_
            refine ec_calli (Wf := MW G h ad) (σ := m_change z.2 k v) (rest := [.int (nI (z.1 + ((m_rg z.2 k v).1)))]) F Z hA (m_change_m l D G h ad _ (m_change z.2 k v) k (mvl τ k) hk hf (mwf_change hz_i hv)) (cwV 2 F.2.2.2.2 (lw_V q236 q238 qs21 q24 q239) rfl rfl rfl (by decide +kernel) ⟨Nat.le_of_ble_eq_true rfl, Nat.le_of_ble_eq_true rfl⟩) (em_recv Z) rfl hl.1 rfl (Nat.le_of_ble_eq_true rfl) dX1_pulse_76 ⟨Nat.le_of_ble_eq_true rfl, Nat.le_of_ble_eq_true rfl⟩ (fun r σ1 H locs hp Z => ?_)
            obtain ⟨hp1, hp2⟩ := hp
            rw [hp1]
            rw [hp2] at Z
            refine en_iadd F dX1_pulse_79 ?_
            refine lv_istore (lv' := [(7, .int (nI (z.1 + ((m_rg z.2 k v).1) + ((m_rg (m_change z.2 k v) k (mvl τ k)).1)))), (8, .int (nI i)), (0, .ref h), (1, .int (nI k)), (2, .int (nI v)), (6, .int (nI (mvl τ k))), (5, .int (nI (ec_tm n)))]) F.1 F.2.1 dX1_pulse_80 hl (by decide) rfl (fun ls hl => ?_)
            refine en_iinc (lv' := [(8, .int (nI (i + 1))), (7, .int (nI (z.1 + ((m_rg z.2 k v).1) + ((m_rg (m_change z.2 k v) k (mvl τ k)).1)))), (0, .ref h), (1, .int (nI k)), (2, .int (nI v)), (6, .int (nI (mvl τ k))), (5, .int (nI (ec_tm n)))]) F dX1_pulse_82 hl (k := 1) rfl (by decide) rfl (fun ls hl => ?_)
            refine lv_goto (tgt := 52) F.1 F.2.1 dX1_pulse_85 (by decide) ?_
            exact kk_i _ _ Z ls (lv_sub hl [0, 1, 2, 3, 4, 5, 6] rfl)
        · intro H locs Z ls hl
          refine lv_iload F.1 F.2.1 dX1_pulse_52 (lv_at hl 0 rfl) ?_
          refine lv_iload F.1 F.2.1 dX1_pulse_54 (lv_at hl 6 rfl) ?_
          refine en_icmp_ge (tgt := 88) F (by omega) (by omega) dX1_pulse_56 (by decide) (fun c_9 => ?_) (fun c_9 => ?_)
          · skip
            refine lv_iload F.1 F.2.1 dX1_pulse_88 (lv_at hl 1 rfl) ?_
            refine ret _ _ _ _ _ _ rfl Z ?_ dX1_pulse_90
            unfold m_pulseR
            rw [if_pos c0]
            exact ⟨rfl, rfl⟩
          · exact absurd c_9 (Nat.lt_irrefl _)
    · exact absurd (by decide) c_1
  · skip
    refine ec_calli (Wf := MW G h ad) (σ := τ) (rest := []) F Z hA (m_status_m l D G h ad _ τ k v hk hv hW) (cwV 2 F.2.2.2.2 (lw_V q232 q234 qs20 q24 q235) rfl rfl rfl (by decide +kernel) ⟨Nat.le_of_ble_eq_true rfl, Nat.le_of_ble_eq_true rfl⟩) (em_recv Z) rfl hl.1 rfl (Nat.le_of_ble_eq_true rfl) dX1_pulse_3 ⟨Nat.le_of_ble_eq_true rfl, Nat.le_of_ble_eq_true rfl⟩ (fun r σ1 H locs hp Z => ?_)
    obtain ⟨hp1, hp2⟩ := hp
    have hp1 : r = -3 := by rw [hp1, if_neg c0]
    rw [hp1]
    rw [hp2] at Z
    refine lv_istore (lv' := [(4, .int (-3)), (0, .ref h), (1, .int (nI k)), (2, .int (nI v)), (3, .int n)]) F.1 F.2.1 dX1_pulse_6 hl (by decide) rfl (fun ls hl => ?_)
    refine lv_iload F.1 F.2.1 dX1_pulse_8 (lv_at hl 0 rfl) ?_
    refine lv_if_ge (tgt := 16) F.1 F.2.1 dX1_pulse_10 (by decide) (fun c_10 => ?_) (fun c_10 => ?_)
    · exact absurd c_10 (by decide)
    · skip
      refine lv_iload F.1 F.2.1 dX1_pulse_13 (lv_at hl 0 rfl) ?_
      refine ret _ _ _ _ _ _ rfl Z ?_ dX1_pulse_15
      unfold m_pulseR
      rw [if_neg c0]
      exact ⟨rfl, rfl⟩
set_option maxHeartbeats 4000000 in
theorem m_set_b (l : Launch) (D : va_G) (G : ec_G) (h : Nat) (ad : Nat → Nat) (sz : Nat) (τ : MS) (s1 v1 : Int32) (hbad : ¬ (ec_sg s1 ∧ ec_vv v1)) : ec_Mi l yX1_set cX1_set 6 (some .int) 3 D G (MW G h ad) h [.int s1, .int v1] τ sz (fun r τ' => r = -1 ∧ τ' = τ) := by
  refine ec_walk_i RX1 (by decide) rfl (Nat.le_of_ble_eq_true rfl) ?_
  intro p e s m below meth c A args Q F hA ret Z ls hl
  have hl : lv_has ls 6 [(0, .ref h), (1, .int s1), (2, .int v1)] := hl
  refine lv_aload_n F.1 F.2.1 dX1_set_0 rfl (lv_at hl 0 rfl) ?_
  refine lv_iload_n F.1 F.2.1 dX1_set_1 rfl (lv_at hl 1 rfl) ?_
  refine lv_iload_n F.1 F.2.1 dX1_set_2 rfl (lv_at hl 2 rfl) ?_
  refine ec_calli (Wf := MW G h ad) (σ := τ) (rest := []) F Z hA (m_status_b l D G h ad _ τ s1 v1 hbad) (cwV 2 F.2.2.2.2 (lw_V q232 q234 qs20 q24 q235) rfl rfl rfl (by decide +kernel) ⟨Nat.le_of_ble_eq_true rfl, Nat.le_of_ble_eq_true rfl⟩) (em_recv Z) rfl hl.1 rfl (Nat.le_of_ble_eq_true rfl) dX1_set_3 ⟨Nat.le_of_ble_eq_true rfl, Nat.le_of_ble_eq_true rfl⟩ (fun r σ1 H locs hp Z => ?_)
  obtain ⟨hp1, hp2⟩ := hp
  rw [hp1]
  rw [hp2] at Z
  refine lv_istore_n (lv' := [(3, .int (-1)), (0, .ref h), (1, .int s1), (2, .int v1)]) F.1 F.2.1 dX1_set_6 rfl hl (by decide) rfl (fun ls hl => ?_)
  refine lv_iload_n F.1 F.2.1 dX1_set_7 rfl (lv_at hl 0 rfl) ?_
  refine lv_if_ge (tgt := 13) F.1 F.2.1 dX1_set_8 (by decide) (fun c_1 => ?_) (fun c_1 => ?_)
  · exact absurd c_1 (by decide)
  · skip
    refine lv_iload_n F.1 F.2.1 dX1_set_11 rfl (lv_at hl 0 rfl) ?_
    refine ret _ _ _ _ _ _ rfl Z ?_ dX1_set_12
    exact ⟨rfl, rfl⟩
set_option maxHeartbeats 4000000 in
theorem m_pulse_b (l : Launch) (D : va_G) (G : ec_G) (h : Nat) (ad : Nat → Nat) (sz : Nat) (τ : MS) (s1 v1 n : Int32) (hbad : ¬ (ec_sg s1 ∧ ec_vv v1)) : ec_Mi l yX1_pulse cX1_pulse 9 (some .int) 3 D G (MW G h ad) h [.int s1, .int v1, .int n] τ sz (fun r τ' => r = -1 ∧ τ' = τ) := by
  refine ec_walk_i RX1 (by decide) rfl (Nat.le_of_ble_eq_true rfl) ?_
  intro p e s m below meth c A args Q F hA ret Z ls hl
  have hl : lv_has ls 9 [(0, .ref h), (1, .int s1), (2, .int v1), (3, .int n)] := hl
  refine lv_aload_n F.1 F.2.1 dX1_pulse_0 rfl (lv_at hl 0 rfl) ?_
  refine lv_iload_n F.1 F.2.1 dX1_pulse_1 rfl (lv_at hl 1 rfl) ?_
  refine lv_iload_n F.1 F.2.1 dX1_pulse_2 rfl (lv_at hl 2 rfl) ?_
  refine ec_calli (Wf := MW G h ad) (σ := τ) (rest := []) F Z hA (m_status_b l D G h ad _ τ s1 v1 hbad) (cwV 2 F.2.2.2.2 (lw_V q232 q234 qs20 q24 q235) rfl rfl rfl (by decide +kernel) ⟨Nat.le_of_ble_eq_true rfl, Nat.le_of_ble_eq_true rfl⟩) (em_recv Z) rfl hl.1 rfl (Nat.le_of_ble_eq_true rfl) dX1_pulse_3 ⟨Nat.le_of_ble_eq_true rfl, Nat.le_of_ble_eq_true rfl⟩ (fun r σ1 H locs hp Z => ?_)
  obtain ⟨hp1, hp2⟩ := hp
  rw [hp1]
  rw [hp2] at Z
  refine lv_istore (lv' := [(4, .int (-1)), (0, .ref h), (1, .int s1), (2, .int v1), (3, .int n)]) F.1 F.2.1 dX1_pulse_6 hl (by decide) rfl (fun ls hl => ?_)
  refine lv_iload F.1 F.2.1 dX1_pulse_8 (lv_at hl 0 rfl) ?_
  refine lv_if_ge (tgt := 16) F.1 F.2.1 dX1_pulse_10 (by decide) (fun c_1 => ?_) (fun c_1 => ?_)
  · exact absurd c_1 (by decide)
  · skip
    refine lv_iload F.1 F.2.1 dX1_pulse_13 (lv_at hl 0 rfl) ?_
    refine ret _ _ _ _ _ _ rfl Z ?_ dX1_pulse_15
    exact ⟨rfl, rfl⟩
set_option maxHeartbeats 4000000 in
theorem m_wire_m (l : Launch) (D : va_G) (G : ec_G) (h : Nat) (ad : Nat → Nat) (sz : Nat) (τ : MS) (k o a b : Nat) (hk : k < 12) (ho : o < 9) (ha : a < 12) (hb : b < 12) (hW : MWF τ) : ec_Mi l yX1_wire cX1_wire 9 (some .int) 2 D G (MW G h ad) h [.int (nI k), .int (nI o), .int (nI a), .int (nI b)] τ sz (fun r τ' => r = (m_wire τ k o a b).1 ∧ τ' = (m_wire τ k o a b).2) := by
  refine ec_walk_i RX1 (by decide) rfl (Nat.le_of_ble_eq_true rfl) ?_
  intro p e s m below meth c A args Q F hA ret Z ls hl
  have hl : lv_has ls 9 [(0, .ref h), (1, .int (nI k)), (2, .int (nI o)), (3, .int (nI a)), (4, .int (nI b))] := hl
  have hW1 : MWF (m_give τ k 1 o a b) := mwf_give hW (by decide) ho ha hb
  refine lv_iload_n F.1 F.2.1 dX1_wire_0 rfl (lv_at hl 2 rfl) ?_
  refine lv_if_lt (tgt := 35) F.1 F.2.1 dX1_wire_1 (by decide) (fun c_1 => ?_) (fun c_1 => ?_)
  · exact absurd c_1 (nI_pos (by omega))
  · skip
    refine lv_iload_n F.1 F.2.1 dX1_wire_4 rfl (lv_at hl 2 rfl) ?_
    refine lv_bipush (v := (nI 8)) F.1 F.2.1 dX1_wire_5 (by decide) ?_
    refine en_icmp_gt (tgt := 35) F (Nat.lt_of_lt_of_le ho (by decide)) (by omega) dX1_wire_7 (by decide) (fun c_2 => ?_) (fun c_2 => ?_)
    · exact absurd c_2 (by omega)
    · skip
      refine lv_aload_n F.1 F.2.1 dX1_wire_10 rfl (lv_at hl 0 rfl) ?_
      refine lv_iload_n F.1 F.2.1 dX1_wire_11 rfl (lv_at hl 1 rfl) ?_
      refine ec_calli (Wf := MW G h ad) (σ := τ) (rest := []) F Z hA (m_sig1 l D G h ad _ (τ) (nI k) (ec_sg_nI hk)) (cwV 1 F.2.2.2.2 (lw_V q192 q194 qs13 q24 q195) rfl rfl rfl (by decide +kernel) ⟨Nat.le_of_ble_eq_true rfl, Nat.le_of_ble_eq_true rfl⟩) (em_recv Z) rfl hl.1 rfl (Nat.le_of_ble_eq_true rfl) dX1_wire_12 ⟨Nat.le_of_ble_eq_true rfl, Nat.le_of_ble_eq_true rfl⟩ (fun r σ1 H locs hp Z => ?_)
      obtain ⟨hp1, hp2⟩ := hp
      rw [hp1]
      rw [hp2] at Z
      refine en_if_eq (tgt := 35) F (by omega) dX1_wire_15 (by decide) (fun c_3 => ?_) (fun c_3 => ?_)
      · exact absurd c_3 (by decide)
      · skip
        refine lv_aload_n F.1 F.2.1 dX1_wire_18 rfl (lv_at hl 0 rfl) ?_
        refine lv_iload_n F.1 F.2.1 dX1_wire_19 rfl (lv_at hl 3 rfl) ?_
        refine ec_calli (Wf := MW G h ad) (σ := τ) (rest := []) F Z hA (m_sig1 l D G h ad _ (τ) (nI a) (ec_sg_nI ha)) (cwV 1 F.2.2.2.2 (lw_V q192 q194 qs13 q24 q195) rfl rfl rfl (by decide +kernel) ⟨Nat.le_of_ble_eq_true rfl, Nat.le_of_ble_eq_true rfl⟩) (em_recv Z) rfl hl.1 rfl (Nat.le_of_ble_eq_true rfl) dX1_wire_20 ⟨Nat.le_of_ble_eq_true rfl, Nat.le_of_ble_eq_true rfl⟩ (fun r σ1 H locs hp Z => ?_)
        obtain ⟨hp1, hp2⟩ := hp
        rw [hp1]
        rw [hp2] at Z
        refine en_if_eq (tgt := 35) F (by omega) dX1_wire_23 (by decide) (fun c_4 => ?_) (fun c_4 => ?_)
        · exact absurd c_4 (by decide)
        · skip
          refine lv_aload_n F.1 F.2.1 dX1_wire_26 rfl (lv_at hl 0 rfl) ?_
          refine lv_iload F.1 F.2.1 dX1_wire_27 (lv_at hl 4 rfl) ?_
          refine ec_calli (Wf := MW G h ad) (σ := τ) (rest := []) F Z hA (m_sig1 l D G h ad _ (τ) (nI b) (ec_sg_nI hb)) (cwV 1 F.2.2.2.2 (lw_V q192 q194 qs13 q24 q195) rfl rfl rfl (by decide +kernel) ⟨Nat.le_of_ble_eq_true rfl, Nat.le_of_ble_eq_true rfl⟩) (em_recv Z) rfl hl.1 rfl (Nat.le_of_ble_eq_true rfl) dX1_wire_29 ⟨Nat.le_of_ble_eq_true rfl, Nat.le_of_ble_eq_true rfl⟩ (fun r σ1 H locs hp Z => ?_)
          obtain ⟨hp1, hp2⟩ := hp
          rw [hp1]
          rw [hp2] at Z
          refine en_if_ne (tgt := 37) F (by omega) dX1_wire_32 (by decide) (fun c_5 => ?_) (fun c_5 => ?_)
          · skip
            refine lv_aload_n F.1 F.2.1 dX1_wire_37 rfl (lv_at hl 0 rfl) ?_
            refine lv_iload_n F.1 F.2.1 dX1_wire_38 rfl (lv_at hl 1 rfl) ?_
            refine ec_calli (Wf := MW G h ad) (σ := τ) (rest := []) F Z hA (m_clock_m l D G h ad _ τ k hk hW) (cwV 1 F.2.2.2.2 (lw_V q196 q198 qs14 q24 q199) rfl rfl rfl (by decide +kernel) ⟨Nat.le_of_ble_eq_true rfl, Nat.le_of_ble_eq_true rfl⟩) (em_recv Z) rfl hl.1 rfl (Nat.le_of_ble_eq_true rfl) dX1_wire_39 ⟨Nat.le_of_ble_eq_true rfl, Nat.le_of_ble_eq_true rfl⟩ (fun r σ1 H locs hp Z => ?_)
            obtain ⟨hp1, hp2⟩ := hp
            rw [hp1]
            rw [hp2] at Z
            refine en_ifb_eq (tgt := 48) F dX1_wire_42 (by decide) (fun c_6 => ?_) (fun c_6 => ?_)
            · skip
              refine lv_aload_n F.1 F.2.1 dX1_wire_48 rfl (lv_at hl 0 rfl) ?_
              refine em_get F Z 0 (by decide) rfl rfl q163 dX1_wire_49 ?_
              refine lv_iload_n F.1 F.2.1 dX1_wire_52 rfl (lv_at hl 1 rfl) ?_
              refine en_iald F Z 1 (mkd τ) rfl hk dX1_wire_53 ?_
              refine lv_istore (lv' := [(5, .int (nI (mkd τ k))), (0, .ref h), (1, .int (nI k)), (2, .int (nI o)), (3, .int (nI a)), (4, .int (nI b))]) F.1 F.2.1 dX1_wire_54 hl (by decide) rfl (fun ls hl => ?_)
              refine lv_aload_n F.1 F.2.1 dX1_wire_56 rfl (lv_at hl 1 rfl) ?_
              refine em_get F Z 1 (by decide) rfl rfl q164 dX1_wire_57 ?_
              refine lv_iload_n F.1 F.2.1 dX1_wire_60 rfl (lv_at hl 2 rfl) ?_
              refine en_iald F Z 2 (mop τ) rfl hk dX1_wire_61 ?_
              refine lv_istore (lv' := [(6, .int (nI (mop τ k))), (5, .int (nI (mkd τ k))), (0, .ref h), (1, .int (nI k)), (2, .int (nI o)), (3, .int (nI a)), (4, .int (nI b))]) F.1 F.2.1 dX1_wire_62 hl (by decide) rfl (fun ls hl => ?_)
              refine lv_aload_n F.1 F.2.1 dX1_wire_64 rfl (lv_at hl 2 rfl) ?_
              refine em_get F Z 2 (by decide) rfl rfl q165 dX1_wire_65 ?_
              refine lv_iload_n F.1 F.2.1 dX1_wire_68 rfl (lv_at hl 3 rfl) ?_
              refine en_iald F Z 3 (ma τ) rfl hk dX1_wire_69 ?_
              refine lv_istore (lv' := [(7, .int (nI (ma τ k))), (6, .int (nI (mop τ k))), (5, .int (nI (mkd τ k))), (0, .ref h), (1, .int (nI k)), (2, .int (nI o)), (3, .int (nI a)), (4, .int (nI b))]) F.1 F.2.1 dX1_wire_70 hl (by decide) rfl (fun ls hl => ?_)
              refine lv_aload_n F.1 F.2.1 dX1_wire_72 rfl (lv_at hl 3 rfl) ?_
              refine em_get F Z 3 (by decide) rfl rfl q166 dX1_wire_73 ?_
              refine lv_iload_n F.1 F.2.1 dX1_wire_76 rfl (lv_at hl 4 rfl) ?_
              refine en_iald F Z 4 (mb τ) rfl hk dX1_wire_77 ?_
              refine lv_istore (lv' := [(8, .int (nI (mb τ k))), (7, .int (nI (ma τ k))), (6, .int (nI (mop τ k))), (5, .int (nI (mkd τ k))), (0, .ref h), (1, .int (nI k)), (2, .int (nI o)), (3, .int (nI a)), (4, .int (nI b))]) F.1 F.2.1 dX1_wire_78 hl (by decide) rfl (fun ls hl => ?_)
              refine lv_aload_n F.1 F.2.1 dX1_wire_80 rfl (lv_at hl 4 rfl) ?_
              refine lv_iload_n F.1 F.2.1 dX1_wire_81 rfl (lv_at hl 5 rfl) ?_
              refine lv_iconst (v := (nI 1)) F.1 F.2.1 dX1_wire_82 (by decide) ?_
              refine lv_iload_n F.1 F.2.1 dX1_wire_83 rfl (lv_at hl 6 rfl) ?_
              refine lv_iload_n F.1 F.2.1 dX1_wire_84 rfl (lv_at hl 7 rfl) ?_
              refine lv_iload F.1 F.2.1 dX1_wire_85 (lv_at hl 8 rfl) ?_
              refine ec_callv (Wf := MW G h ad) (σ := τ) (rest := []) F Z hA (m_give_m l D G h ad _ τ k 1 o a b hk) (cwV 5 F.2.2.2.2 (lw_V q200 q202 qs15 q24 q203) rfl rfl rfl (by decide +kernel) ⟨Nat.le_of_ble_eq_true rfl, Nat.le_of_ble_eq_true rfl⟩) (em_recv Z) rfl hl.1 rfl (Nat.le_of_ble_eq_true rfl) dX1_wire_87 ⟨Nat.le_of_ble_eq_true rfl, Nat.le_of_ble_eq_true rfl⟩ (fun σ1 H locs hp Z => ?_)
              have hp : σ1 = m_give τ k 1 o a b := hp
              rw [hp] at Z
              refine lv_aload_n F.1 F.2.1 dX1_wire_90 rfl (lv_at hl 4 rfl) ?_
              refine ec_calli (Wf := MW G h ad) (σ := m_give τ k 1 o a b) (rest := []) F Z hA (m_circle_m l D G h ad _ (m_give τ k 1 o a b) hW1) (cwV 0 F.2.2.2.2 (lw_V q204 q206 qs16 q24 q207) rfl rfl rfl (by decide +kernel) ⟨Nat.le_of_ble_eq_true rfl, Nat.le_of_ble_eq_true rfl⟩) (em_recv Z) rfl hl.1 rfl (Nat.le_of_ble_eq_true rfl) dX1_wire_91 ⟨Nat.le_of_ble_eq_true rfl, Nat.le_of_ble_eq_true rfl⟩ (fun r σ1 H locs hp Z => ?_)
              obtain ⟨hp1, hp2⟩ := hp
              rw [hp1]
              rw [hp2] at Z
              refine en_ifb_eq (tgt := 113) F dX1_wire_94 (by decide) (fun c_7 => ?_) (fun c_7 => ?_)
              · skip
                refine lv_aload_n F.1 F.2.1 dX1_wire_113 rfl (lv_at hl 4 rfl) ?_
                refine ec_callv (Wf := MW G h ad) (σ := m_find (m_give τ k 1 o a b)) (rest := []) F Z hA (m_settle_m l D G h ad _ (m_find (m_give τ k 1 o a b)) (mwf_find hW1)) (cwV 0 F.2.2.2.2 (lw_V q212 q214 qs18 q24 q215) rfl rfl rfl (by decide +kernel) ⟨Nat.le_of_ble_eq_true rfl, Nat.le_of_ble_eq_true rfl⟩) (em_recv Z) rfl hl.1 rfl (Nat.le_of_ble_eq_true rfl) dX1_wire_114 ⟨Nat.le_of_ble_eq_true rfl, Nat.le_of_ble_eq_true rfl⟩ (fun σ1 H locs hp Z => ?_)
                have hp : σ1 = m_settle (m_find (m_give τ k 1 o a b)) := hp
                rw [hp] at Z
                refine lv_aload_n F.1 F.2.1 dX1_wire_117 rfl (lv_at hl 4 rfl) ?_
                refine em_get F Z 5 (by decide) rfl rfl q168 dX1_wire_118 ?_
                refine lv_iload_n F.1 F.2.1 dX1_wire_121 rfl (lv_at hl 5 rfl) ?_
                refine en_iald F Z 6 (mvl (m_settle (m_find (m_give τ k 1 o a b)))) rfl hk dX1_wire_122 ?_
                refine ret _ _ _ _ _ _ rfl Z ?_ dX1_wire_123
                unfold m_wire
                rw [if_neg (ec_nt c_6), if_neg (ec_nt c_7)]
                exact ⟨rfl, rfl⟩
              · skip
                refine lv_aload_n F.1 F.2.1 dX1_wire_97 rfl (lv_at hl 4 rfl) ?_
                refine lv_iload_n F.1 F.2.1 dX1_wire_98 rfl (lv_at hl 5 rfl) ?_
                refine lv_iload F.1 F.2.1 dX1_wire_99 (lv_at hl 3 rfl) ?_
                refine lv_iload F.1 F.2.1 dX1_wire_101 (lv_at hl 2 rfl) ?_
                refine lv_iload F.1 F.2.1 dX1_wire_103 (lv_at hl 1 rfl) ?_
                refine lv_iload F.1 F.2.1 dX1_wire_105 (lv_at hl 0 rfl) ?_
                refine ec_callv (Wf := MW G h ad) (σ := m_find (m_give τ k 1 o a b)) (rest := []) F Z hA (m_give_m l D G h ad _ (m_find (m_give τ k 1 o a b)) k (mkd τ k) (mop τ k) (ma τ k) (mb τ k) hk) (cwV 5 F.2.2.2.2 (lw_V q200 q202 qs15 q24 q203) rfl rfl rfl (by decide +kernel) ⟨Nat.le_of_ble_eq_true rfl, Nat.le_of_ble_eq_true rfl⟩) (em_recv Z) rfl hl.1 rfl (Nat.le_of_ble_eq_true rfl) dX1_wire_107 ⟨Nat.le_of_ble_eq_true rfl, Nat.le_of_ble_eq_true rfl⟩ (fun σ1 H locs hp Z => ?_)
                have hp : σ1 = m_give (m_find (m_give τ k 1 o a b)) k (mkd τ k) (mop τ k) (ma τ k) (mb τ k) := hp
                rw [hp] at Z
                refine lv_bipush (v := (-2)) F.1 F.2.1 dX1_wire_110 (by decide) ?_
                refine ret _ _ _ _ _ _ rfl Z ?_ dX1_wire_112
                unfold m_wire
                rw [if_neg (ec_nt c_6), if_pos c_7]
                exact ⟨rfl, rfl⟩
            · skip
              refine lv_bipush (v := (-3)) F.1 F.2.1 dX1_wire_45 (by decide) ?_
              refine ret _ _ _ _ _ _ rfl Z ?_ dX1_wire_47
              unfold m_wire
              rw [if_pos c_6]
              exact ⟨rfl, rfl⟩
          · exact absurd c_5 (by decide)
set_option maxHeartbeats 4000000 in
theorem m_wire_b (l : Launch) (D : va_G) (G : ec_G) (h : Nat) (ad : Nat → Nat) (sz : Nat) (τ : MS) (s1 o1 a1 b1 : Int32) (hbad : ¬ (ec_ov o1 ∧ ec_sg s1 ∧ ec_sg a1 ∧ ec_sg b1)) : ec_Mi l yX1_wire cX1_wire 9 (some .int) 2 D G (MW G h ad) h [.int s1, .int o1, .int a1, .int b1] τ sz (fun r τ' => r = -1 ∧ τ' = τ) := by
  refine ec_walk_i RX1 (by decide) rfl (Nat.le_of_ble_eq_true rfl) ?_
  intro p e s m below meth c A args Q F hA ret Z ls hl
  have hl : lv_has ls 9 [(0, .ref h), (1, .int s1), (2, .int o1), (3, .int a1), (4, .int b1)] := hl
  refine lv_iload_n F.1 F.2.1 dX1_wire_0 rfl (lv_at hl 2 rfl) ?_
  refine lv_if_lt (tgt := 35) F.1 F.2.1 dX1_wire_1 (by decide) (fun c_1 => ?_) (fun c_1 => ?_)
  · skip
    refine lv_iconst (v := (-1)) F.1 F.2.1 dX1_wire_35 (by decide) ?_
    refine ret _ _ _ _ _ _ rfl Z ?_ dX1_wire_36
    exact ⟨rfl, rfl⟩
  · skip
    refine lv_iload_n F.1 F.2.1 dX1_wire_4 rfl (lv_at hl 2 rfl) ?_
    refine lv_bipush (v := (nI 8)) F.1 F.2.1 dX1_wire_5 (by decide) ?_
    refine lv_icmp_gt (tgt := 35) F.1 F.2.1 dX1_wire_7 (by decide) (fun c_2 => ?_) (fun c_2 => ?_)
    · skip
      refine lv_iconst (v := (-1)) F.1 F.2.1 dX1_wire_35 (by decide) ?_
      refine ret _ _ _ _ _ _ rfl Z ?_ dX1_wire_36
      exact ⟨rfl, rfl⟩
    · skip
      refine lv_aload_n F.1 F.2.1 dX1_wire_10 rfl (lv_at hl 0 rfl) ?_
      refine lv_iload_n F.1 F.2.1 dX1_wire_11 rfl (lv_at hl 1 rfl) ?_
      by_cases hs_12 : ec_sg s1
      · skip
        refine ec_calli (Wf := MW G h ad) (σ := τ) (rest := []) F Z hA (m_sig1 l D G h ad _ τ s1 hs_12) (cwV 1 F.2.2.2.2 (lw_V q192 q194 qs13 q24 q195) rfl rfl rfl (by decide +kernel) ⟨Nat.le_of_ble_eq_true rfl, Nat.le_of_ble_eq_true rfl⟩) (em_recv Z) rfl hl.1 rfl (Nat.le_of_ble_eq_true rfl) dX1_wire_12 ⟨Nat.le_of_ble_eq_true rfl, Nat.le_of_ble_eq_true rfl⟩ (fun r σ1 H locs hp Z => ?_)
        obtain ⟨hp1, hp2⟩ := hp
        rw [hp1]
        rw [hp2] at Z
        refine en_if_eq (tgt := 35) F (by omega) dX1_wire_15 (by decide) (fun c_3 => ?_) (fun c_3 => ?_)
        · exact absurd c_3 (by decide)
        · skip
          refine lv_aload_n F.1 F.2.1 dX1_wire_18 rfl (lv_at hl 0 rfl) ?_
          refine lv_iload_n F.1 F.2.1 dX1_wire_19 rfl (lv_at hl 3 rfl) ?_
          by_cases hs_20 : ec_sg a1
          · skip
            refine ec_calli (Wf := MW G h ad) (σ := τ) (rest := []) F Z hA (m_sig1 l D G h ad _ τ a1 hs_20) (cwV 1 F.2.2.2.2 (lw_V q192 q194 qs13 q24 q195) rfl rfl rfl (by decide +kernel) ⟨Nat.le_of_ble_eq_true rfl, Nat.le_of_ble_eq_true rfl⟩) (em_recv Z) rfl hl.1 rfl (Nat.le_of_ble_eq_true rfl) dX1_wire_20 ⟨Nat.le_of_ble_eq_true rfl, Nat.le_of_ble_eq_true rfl⟩ (fun r σ1 H locs hp Z => ?_)
            obtain ⟨hp1, hp2⟩ := hp
            rw [hp1]
            rw [hp2] at Z
            refine en_if_eq (tgt := 35) F (by omega) dX1_wire_23 (by decide) (fun c_4 => ?_) (fun c_4 => ?_)
            · exact absurd c_4 (by decide)
            · skip
              refine lv_aload_n F.1 F.2.1 dX1_wire_26 rfl (lv_at hl 0 rfl) ?_
              refine lv_iload F.1 F.2.1 dX1_wire_27 (lv_at hl 4 rfl) ?_
              by_cases hs_29 : ec_sg b1
              · skip
                refine ec_calli (Wf := MW G h ad) (σ := τ) (rest := []) F Z hA (m_sig1 l D G h ad _ τ b1 hs_29) (cwV 1 F.2.2.2.2 (lw_V q192 q194 qs13 q24 q195) rfl rfl rfl (by decide +kernel) ⟨Nat.le_of_ble_eq_true rfl, Nat.le_of_ble_eq_true rfl⟩) (em_recv Z) rfl hl.1 rfl (Nat.le_of_ble_eq_true rfl) dX1_wire_29 ⟨Nat.le_of_ble_eq_true rfl, Nat.le_of_ble_eq_true rfl⟩ (fun r σ1 H locs hp Z => ?_)
                obtain ⟨hp1, hp2⟩ := hp
                rw [hp1]
                rw [hp2] at Z
                exact absurd ⟨⟨c_1, c_2⟩, hs_12, hs_20, hs_29⟩ hbad
              · skip
                refine ec_calli (Wf := MW G h ad) (σ := τ) (rest := []) F Z hA (m_sig0 l D G h ad _ τ b1 hs_29) (cwV 1 F.2.2.2.2 (lw_V q192 q194 qs13 q24 q195) rfl rfl rfl (by decide +kernel) ⟨Nat.le_of_ble_eq_true rfl, Nat.le_of_ble_eq_true rfl⟩) (em_recv Z) rfl hl.1 rfl (Nat.le_of_ble_eq_true rfl) dX1_wire_29 ⟨Nat.le_of_ble_eq_true rfl, Nat.le_of_ble_eq_true rfl⟩ (fun r σ1 H locs hp Z => ?_)
                obtain ⟨hp1, hp2⟩ := hp
                rw [hp1]
                rw [hp2] at Z
                refine en_if_ne (tgt := 37) F (by omega) dX1_wire_32 (by decide) (fun c_5 => ?_) (fun c_5 => ?_)
                · exact absurd c_5 (by decide)
                · skip
                  refine lv_iconst (v := (-1)) F.1 F.2.1 dX1_wire_35 (by decide) ?_
                  refine ret _ _ _ _ _ _ rfl Z ?_ dX1_wire_36
                  exact ⟨rfl, rfl⟩
          · skip
            refine ec_calli (Wf := MW G h ad) (σ := τ) (rest := []) F Z hA (m_sig0 l D G h ad _ τ a1 hs_20) (cwV 1 F.2.2.2.2 (lw_V q192 q194 qs13 q24 q195) rfl rfl rfl (by decide +kernel) ⟨Nat.le_of_ble_eq_true rfl, Nat.le_of_ble_eq_true rfl⟩) (em_recv Z) rfl hl.1 rfl (Nat.le_of_ble_eq_true rfl) dX1_wire_20 ⟨Nat.le_of_ble_eq_true rfl, Nat.le_of_ble_eq_true rfl⟩ (fun r σ1 H locs hp Z => ?_)
            obtain ⟨hp1, hp2⟩ := hp
            rw [hp1]
            rw [hp2] at Z
            refine en_if_eq (tgt := 35) F (by omega) dX1_wire_23 (by decide) (fun c_6 => ?_) (fun c_6 => ?_)
            · skip
              refine lv_iconst (v := (-1)) F.1 F.2.1 dX1_wire_35 (by decide) ?_
              refine ret _ _ _ _ _ _ rfl Z ?_ dX1_wire_36
              exact ⟨rfl, rfl⟩
            · exact absurd c_6 (by decide)
      · skip
        refine ec_calli (Wf := MW G h ad) (σ := τ) (rest := []) F Z hA (m_sig0 l D G h ad _ τ s1 hs_12) (cwV 1 F.2.2.2.2 (lw_V q192 q194 qs13 q24 q195) rfl rfl rfl (by decide +kernel) ⟨Nat.le_of_ble_eq_true rfl, Nat.le_of_ble_eq_true rfl⟩) (em_recv Z) rfl hl.1 rfl (Nat.le_of_ble_eq_true rfl) dX1_wire_12 ⟨Nat.le_of_ble_eq_true rfl, Nat.le_of_ble_eq_true rfl⟩ (fun r σ1 H locs hp Z => ?_)
        obtain ⟨hp1, hp2⟩ := hp
        rw [hp1]
        rw [hp2] at Z
        refine en_if_eq (tgt := 35) F (by omega) dX1_wire_15 (by decide) (fun c_7 => ?_) (fun c_7 => ?_)
        · skip
          refine lv_iconst (v := (-1)) F.1 F.2.1 dX1_wire_35 (by decide) ?_
          refine ret _ _ _ _ _ _ rfl Z ?_ dX1_wire_36
          exact ⟨rfl, rfl⟩
        · exact absurd c_7 (by decide)
set_option maxHeartbeats 4000000 in
theorem m_register_m (l : Launch) (D : va_G) (G : ec_G) (h : Nat) (ad : Nat → Nat) (sz : Nat) (τ : MS) (k o a b : Nat) (hk : k < 12) (ho : o < 9) (ha : a < 12) (hb : b < 144) (hW : MWF τ) : ec_Mi l yX1_register cX1_register 6 (some .int) 2 D G (MW G h ad) h [.int (nI k), .int (nI o), .int (nI a), .int (nI b)] τ sz (fun r τ' => r = (m_register τ k o a b).1 ∧ τ' = (m_register τ k o a b).2) := by
  refine ec_walk_i RX1 (by decide) rfl (Nat.le_of_ble_eq_true rfl) ?_
  intro p e s m below meth c A args Q F hA ret Z ls hl
  have hl : lv_has ls 6 [(0, .ref h), (1, .int (nI k)), (2, .int (nI o)), (3, .int (nI a)), (4, .int (nI b))] := hl
  refine lv_iload_n F.1 F.2.1 dX1_register_0 rfl (lv_at hl 2 rfl) ?_
  refine lv_if_lt (tgt := 39) F.1 F.2.1 dX1_register_1 (by decide) (fun c_1 => ?_) (fun c_1 => ?_)
  · exact absurd c_1 (nI_pos (by omega))
  · skip
    refine lv_iload_n F.1 F.2.1 dX1_register_4 rfl (lv_at hl 2 rfl) ?_
    refine lv_bipush (v := (nI 8)) F.1 F.2.1 dX1_register_5 (by decide) ?_
    refine en_icmp_gt (tgt := 39) F (Nat.lt_of_lt_of_le ho (by decide)) (by omega) dX1_register_7 (by decide) (fun c_2 => ?_) (fun c_2 => ?_)
    · exact absurd c_2 (by omega)
    · skip
      refine lv_aload_n F.1 F.2.1 dX1_register_10 rfl (lv_at hl 0 rfl) ?_
      refine lv_iload_n F.1 F.2.1 dX1_register_11 rfl (lv_at hl 1 rfl) ?_
      refine ec_calli (Wf := MW G h ad) (σ := τ) (rest := []) F Z hA (m_sig1 l D G h ad _ (τ) (nI k) (ec_sg_nI hk)) (cwV 1 F.2.2.2.2 (lw_V q192 q194 qs13 q24 q195) rfl rfl rfl (by decide +kernel) ⟨Nat.le_of_ble_eq_true rfl, Nat.le_of_ble_eq_true rfl⟩) (em_recv Z) rfl hl.1 rfl (Nat.le_of_ble_eq_true rfl) dX1_register_12 ⟨Nat.le_of_ble_eq_true rfl, Nat.le_of_ble_eq_true rfl⟩ (fun r σ1 H locs hp Z => ?_)
      obtain ⟨hp1, hp2⟩ := hp
      rw [hp1]
      rw [hp2] at Z
      refine en_if_eq (tgt := 39) F (by omega) dX1_register_15 (by decide) (fun c_3 => ?_) (fun c_3 => ?_)
      · exact absurd c_3 (by decide)
      · skip
        refine lv_aload_n F.1 F.2.1 dX1_register_18 rfl (lv_at hl 0 rfl) ?_
        refine lv_iload_n F.1 F.2.1 dX1_register_19 rfl (lv_at hl 3 rfl) ?_
        refine ec_calli (Wf := MW G h ad) (σ := τ) (rest := []) F Z hA (m_sig1 l D G h ad _ (τ) (nI a) (ec_sg_nI ha)) (cwV 1 F.2.2.2.2 (lw_V q192 q194 qs13 q24 q195) rfl rfl rfl (by decide +kernel) ⟨Nat.le_of_ble_eq_true rfl, Nat.le_of_ble_eq_true rfl⟩) (em_recv Z) rfl hl.1 rfl (Nat.le_of_ble_eq_true rfl) dX1_register_20 ⟨Nat.le_of_ble_eq_true rfl, Nat.le_of_ble_eq_true rfl⟩ (fun r σ1 H locs hp Z => ?_)
        obtain ⟨hp1, hp2⟩ := hp
        rw [hp1]
        rw [hp2] at Z
        refine en_if_eq (tgt := 39) F (by omega) dX1_register_23 (by decide) (fun c_4 => ?_) (fun c_4 => ?_)
        · exact absurd c_4 (by decide)
        · skip
          refine lv_iload F.1 F.2.1 dX1_register_26 (lv_at hl 4 rfl) ?_
          refine lv_if_lt (tgt := 39) F.1 F.2.1 dX1_register_28 (by decide) (fun c_5 => ?_) (fun c_5 => ?_)
          · exact absurd c_5 (nI_pos (by omega))
          · skip
            refine lv_iload F.1 F.2.1 dX1_register_31 (lv_at hl 4 rfl) ?_
            refine lv_sipush (v := (nI 143)) F.1 F.2.1 dX1_register_33 (by decide) ?_
            refine en_icmp_le (tgt := 41) F (Nat.lt_of_lt_of_le hb (by decide)) (by omega) dX1_register_36 (by decide) (fun c_6 => ?_) (fun c_6 => ?_)
            · skip
              refine lv_iload F.1 F.2.1 dX1_register_41 (lv_at hl 4 rfl) ?_
              refine lv_bipush (v := (nI 12)) F.1 F.2.1 dX1_register_43 (by decide) ?_
              refine en_idiv F (Nat.lt_of_lt_of_le hb (by decide)) (by decide) (by decide) dX1_register_45 ?_
              refine lv_istore (lv' := [(5, .int (nI (b / 12))), (0, .ref h), (1, .int (nI k)), (2, .int (nI o)), (3, .int (nI a)), (4, .int (nI b))]) F.1 F.2.1 dX1_register_46 hl (by decide) rfl (fun ls hl => ?_)
              refine lv_aload_n F.1 F.2.1 dX1_register_48 rfl (lv_at hl 1 rfl) ?_
              refine em_get F Z 0 (by decide) rfl rfl q163 dX1_register_49 ?_
              refine lv_iload F.1 F.2.1 dX1_register_52 (lv_at hl 0 rfl) ?_
              refine en_iald F Z 1 (mkd τ) rfl (by omega) dX1_register_54 ?_
              refine en_if_ne (tgt := 72) F (Nat.lt_of_lt_of_le (hW.1 _ (by omega)) (by decide)) dX1_register_55 (by decide) (fun c_7 => ?_) (fun c_7 => ?_)
              · skip
                refine lv_bipush (v := (-3)) F.1 F.2.1 dX1_register_72 (by decide) ?_
                refine ret _ _ _ _ _ _ rfl Z ?_ dX1_register_74
                unfold m_register
                rw [if_pos (Or.inl c_7)]
                exact ⟨rfl, rfl⟩
              · skip
                refine lv_iload F.1 F.2.1 dX1_register_58 (lv_at hl 0 rfl) ?_
                refine lv_iload_n F.1 F.2.1 dX1_register_60 rfl (lv_at hl 2 rfl) ?_
                refine en_icmp_eq (tgt := 72) F (by omega) (Nat.lt_of_lt_of_le hk (by decide)) dX1_register_61 (by decide) (fun c_8 => ?_) (fun c_8 => ?_)
                · skip
                  refine lv_bipush (v := (-3)) F.1 F.2.1 dX1_register_72 (by decide) ?_
                  refine ret _ _ _ _ _ _ rfl Z ?_ dX1_register_74
                  unfold m_register
                  rw [if_pos (Or.inr (Or.inl c_8))]
                  exact ⟨rfl, rfl⟩
                · skip
                  refine lv_aload_n F.1 F.2.1 dX1_register_64 rfl (lv_at hl 1 rfl) ?_
                  refine lv_iload_n F.1 F.2.1 dX1_register_65 rfl (lv_at hl 2 rfl) ?_
                  refine ec_calli (Wf := MW G h ad) (σ := τ) (rest := []) F Z hA (m_clock_m l D G h ad _ τ k hk hW) (cwV 1 F.2.2.2.2 (lw_V q196 q198 qs14 q24 q199) rfl rfl rfl (by decide +kernel) ⟨Nat.le_of_ble_eq_true rfl, Nat.le_of_ble_eq_true rfl⟩) (em_recv Z) rfl hl.1 rfl (Nat.le_of_ble_eq_true rfl) dX1_register_66 ⟨Nat.le_of_ble_eq_true rfl, Nat.le_of_ble_eq_true rfl⟩ (fun r σ1 H locs hp Z => ?_)
                  obtain ⟨hp1, hp2⟩ := hp
                  rw [hp1]
                  rw [hp2] at Z
                  refine en_ifb_eq (tgt := 75) F dX1_register_69 (by decide) (fun c_9 => ?_) (fun c_9 => ?_)
                  · skip
                    refine lv_aload_n F.1 F.2.1 dX1_register_75 rfl (lv_at hl 1 rfl) ?_
                    refine lv_iload_n F.1 F.2.1 dX1_register_76 rfl (lv_at hl 2 rfl) ?_
                    refine lv_iconst (v := (nI 2)) F.1 F.2.1 dX1_register_77 (by decide) ?_
                    refine lv_iload_n F.1 F.2.1 dX1_register_78 rfl (lv_at hl 3 rfl) ?_
                    refine lv_iload_n F.1 F.2.1 dX1_register_79 rfl (lv_at hl 4 rfl) ?_
                    refine lv_iload F.1 F.2.1 dX1_register_80 (lv_at hl 5 rfl) ?_
                    refine lv_bipush (v := (nI 12)) F.1 F.2.1 dX1_register_82 (by decide) ?_
                    refine en_irem F (Nat.lt_of_lt_of_le hb (by decide)) (by decide) (by decide) dX1_register_84 ?_
                    refine ec_callv (Wf := MW G h ad) (σ := τ) (rest := []) F Z hA (m_give_m l D G h ad _ τ k 2 o a (b % 12) hk) (cwV 5 F.2.2.2.2 (lw_V q200 q202 qs15 q24 q203) rfl rfl rfl (by decide +kernel) ⟨Nat.le_of_ble_eq_true rfl, Nat.le_of_ble_eq_true rfl⟩) (em_recv Z) rfl hl.1 rfl (Nat.le_of_ble_eq_true rfl) dX1_register_85 ⟨Nat.le_of_ble_eq_true rfl, Nat.le_of_ble_eq_true rfl⟩ (fun σ1 H locs hp Z => ?_)
                    have hp : σ1 = m_give τ k 2 o a (b % 12) := hp
                    rw [hp] at Z
                    refine lv_aload_n F.1 F.2.1 dX1_register_88 rfl (lv_at hl 1 rfl) ?_
                    refine em_get F Z 4 (by decide) rfl rfl q167 dX1_register_89 ?_
                    refine lv_iload_n F.1 F.2.1 dX1_register_92 rfl (lv_at hl 2 rfl) ?_
                    refine lv_iload F.1 F.2.1 dX1_register_93 (lv_at hl 0 rfl) ?_
                    refine en_iast (ws' := MW G h ad (msCk (m_give τ k 2 o a (b % 12)) (ec_up (mck τ) k (b / 12)))) F Z 5 (mck τ) rfl hk rfl dX1_register_95 (fun H locs Z => ?_)
                    refine lv_aload_n F.1 F.2.1 dX1_register_96 rfl (lv_at hl 1 rfl) ?_
                    have hW1 : MWF (m_give τ k 2 o a (b % 12)) := mwf_give hW (by decide) ho ha (by omega)
                    have hW2 : MWF (msCk (m_give τ k 2 o a (b % 12)) (ec_up (mck τ) k (b / 12))) := mwf_ck hW1 (by omega)
                    refine ec_callv (Wf := MW G h ad) (σ := msCk (m_give τ k 2 o a (b % 12)) (ec_up (mck τ) k (b / 12))) (rest := []) F Z hA (m_settle_m l D G h ad _ (msCk (m_give τ k 2 o a (b % 12)) (ec_up (mck τ) k (b / 12))) hW2) (cwV 0 F.2.2.2.2 (lw_V q212 q214 qs18 q24 q215) rfl rfl rfl (by decide +kernel) ⟨Nat.le_of_ble_eq_true rfl, Nat.le_of_ble_eq_true rfl⟩) (em_recv Z) rfl hl.1 rfl (Nat.le_of_ble_eq_true rfl) dX1_register_97 ⟨Nat.le_of_ble_eq_true rfl, Nat.le_of_ble_eq_true rfl⟩ (fun σ1 H locs hp Z => ?_)
                    have hp : σ1 = m_settle (msCk (m_give τ k 2 o a (b % 12)) (ec_up (mck τ) k (b / 12))) := hp
                    rw [hp] at Z
                    refine lv_aload_n F.1 F.2.1 dX1_register_100 rfl (lv_at hl 1 rfl) ?_
                    refine em_get F Z 5 (by decide) rfl rfl q168 dX1_register_101 ?_
                    refine lv_iload_n F.1 F.2.1 dX1_register_104 rfl (lv_at hl 2 rfl) ?_
                    refine en_iald F Z 6 (mvl (m_settle (msCk (m_give τ k 2 o a (b % 12)) (ec_up (mck τ) k (b / 12))))) rfl hk dX1_register_105 ?_
                    refine ret _ _ _ _ _ _ rfl Z ?_ dX1_register_106
                    unfold m_register
                    rw [if_neg (ec_n3 c_7 c_8 (ec_nt c_9))]
                    exact ⟨rfl, rfl⟩
                  · skip
                    refine lv_bipush (v := (-3)) F.1 F.2.1 dX1_register_72 (by decide) ?_
                    refine ret _ _ _ _ _ _ rfl Z ?_ dX1_register_74
                    unfold m_register
                    rw [if_pos (Or.inr (Or.inr c_9))]
                    exact ⟨rfl, rfl⟩
            · exact absurd c_6 (by omega)
set_option maxHeartbeats 4000000 in
theorem m_register_b (l : Launch) (D : va_G) (G : ec_G) (h : Nat) (ad : Nat → Nat) (sz : Nat) (τ : MS) (s1 o1 a1 b1 : Int32) (hbad : ¬ (ec_ov o1 ∧ ec_sg s1 ∧ ec_sg a1 ∧ ec_bc b1)) : ec_Mi l yX1_register cX1_register 6 (some .int) 2 D G (MW G h ad) h [.int s1, .int o1, .int a1, .int b1] τ sz (fun r τ' => r = -1 ∧ τ' = τ) := by
  refine ec_walk_i RX1 (by decide) rfl (Nat.le_of_ble_eq_true rfl) ?_
  intro p e s m below meth c A args Q F hA ret Z ls hl
  have hl : lv_has ls 6 [(0, .ref h), (1, .int s1), (2, .int o1), (3, .int a1), (4, .int b1)] := hl
  refine lv_iload_n F.1 F.2.1 dX1_register_0 rfl (lv_at hl 2 rfl) ?_
  refine lv_if_lt (tgt := 39) F.1 F.2.1 dX1_register_1 (by decide) (fun c_1 => ?_) (fun c_1 => ?_)
  · skip
    refine lv_iconst (v := (-1)) F.1 F.2.1 dX1_register_39 (by decide) ?_
    refine ret _ _ _ _ _ _ rfl Z ?_ dX1_register_40
    exact ⟨rfl, rfl⟩
  · skip
    refine lv_iload_n F.1 F.2.1 dX1_register_4 rfl (lv_at hl 2 rfl) ?_
    refine lv_bipush (v := (nI 8)) F.1 F.2.1 dX1_register_5 (by decide) ?_
    refine lv_icmp_gt (tgt := 39) F.1 F.2.1 dX1_register_7 (by decide) (fun c_2 => ?_) (fun c_2 => ?_)
    · skip
      refine lv_iconst (v := (-1)) F.1 F.2.1 dX1_register_39 (by decide) ?_
      refine ret _ _ _ _ _ _ rfl Z ?_ dX1_register_40
      exact ⟨rfl, rfl⟩
    · skip
      refine lv_aload_n F.1 F.2.1 dX1_register_10 rfl (lv_at hl 0 rfl) ?_
      refine lv_iload_n F.1 F.2.1 dX1_register_11 rfl (lv_at hl 1 rfl) ?_
      by_cases hs_12 : ec_sg s1
      · skip
        refine ec_calli (Wf := MW G h ad) (σ := τ) (rest := []) F Z hA (m_sig1 l D G h ad _ τ s1 hs_12) (cwV 1 F.2.2.2.2 (lw_V q192 q194 qs13 q24 q195) rfl rfl rfl (by decide +kernel) ⟨Nat.le_of_ble_eq_true rfl, Nat.le_of_ble_eq_true rfl⟩) (em_recv Z) rfl hl.1 rfl (Nat.le_of_ble_eq_true rfl) dX1_register_12 ⟨Nat.le_of_ble_eq_true rfl, Nat.le_of_ble_eq_true rfl⟩ (fun r σ1 H locs hp Z => ?_)
        obtain ⟨hp1, hp2⟩ := hp
        rw [hp1]
        rw [hp2] at Z
        refine en_if_eq (tgt := 39) F (by omega) dX1_register_15 (by decide) (fun c_3 => ?_) (fun c_3 => ?_)
        · exact absurd c_3 (by decide)
        · skip
          refine lv_aload_n F.1 F.2.1 dX1_register_18 rfl (lv_at hl 0 rfl) ?_
          refine lv_iload_n F.1 F.2.1 dX1_register_19 rfl (lv_at hl 3 rfl) ?_
          by_cases hs_20 : ec_sg a1
          · skip
            refine ec_calli (Wf := MW G h ad) (σ := τ) (rest := []) F Z hA (m_sig1 l D G h ad _ τ a1 hs_20) (cwV 1 F.2.2.2.2 (lw_V q192 q194 qs13 q24 q195) rfl rfl rfl (by decide +kernel) ⟨Nat.le_of_ble_eq_true rfl, Nat.le_of_ble_eq_true rfl⟩) (em_recv Z) rfl hl.1 rfl (Nat.le_of_ble_eq_true rfl) dX1_register_20 ⟨Nat.le_of_ble_eq_true rfl, Nat.le_of_ble_eq_true rfl⟩ (fun r σ1 H locs hp Z => ?_)
            obtain ⟨hp1, hp2⟩ := hp
            rw [hp1]
            rw [hp2] at Z
            refine en_if_eq (tgt := 39) F (by omega) dX1_register_23 (by decide) (fun c_4 => ?_) (fun c_4 => ?_)
            · exact absurd c_4 (by decide)
            · skip
              refine lv_iload F.1 F.2.1 dX1_register_26 (lv_at hl 4 rfl) ?_
              refine lv_if_lt (tgt := 39) F.1 F.2.1 dX1_register_28 (by decide) (fun c_5 => ?_) (fun c_5 => ?_)
              · skip
                refine lv_iconst (v := (-1)) F.1 F.2.1 dX1_register_39 (by decide) ?_
                refine ret _ _ _ _ _ _ rfl Z ?_ dX1_register_40
                exact ⟨rfl, rfl⟩
              · skip
                refine lv_iload F.1 F.2.1 dX1_register_31 (lv_at hl 4 rfl) ?_
                refine lv_sipush (v := (nI 143)) F.1 F.2.1 dX1_register_33 (by decide) ?_
                refine lv_icmp_le (tgt := 41) F.1 F.2.1 dX1_register_36 (by decide) (fun c_6 => ?_) (fun c_6 => ?_)
                · skip
                  exact absurd ⟨⟨c_1, c_2⟩, hs_12, hs_20, ⟨c_5, ec_le143 c_6⟩⟩ hbad
                · skip
                  refine lv_iconst (v := (-1)) F.1 F.2.1 dX1_register_39 (by decide) ?_
                  refine ret _ _ _ _ _ _ rfl Z ?_ dX1_register_40
                  exact ⟨rfl, rfl⟩
          · skip
            refine ec_calli (Wf := MW G h ad) (σ := τ) (rest := []) F Z hA (m_sig0 l D G h ad _ τ a1 hs_20) (cwV 1 F.2.2.2.2 (lw_V q192 q194 qs13 q24 q195) rfl rfl rfl (by decide +kernel) ⟨Nat.le_of_ble_eq_true rfl, Nat.le_of_ble_eq_true rfl⟩) (em_recv Z) rfl hl.1 rfl (Nat.le_of_ble_eq_true rfl) dX1_register_20 ⟨Nat.le_of_ble_eq_true rfl, Nat.le_of_ble_eq_true rfl⟩ (fun r σ1 H locs hp Z => ?_)
            obtain ⟨hp1, hp2⟩ := hp
            rw [hp1]
            rw [hp2] at Z
            refine en_if_eq (tgt := 39) F (by omega) dX1_register_23 (by decide) (fun c_7 => ?_) (fun c_7 => ?_)
            · skip
              refine lv_iconst (v := (-1)) F.1 F.2.1 dX1_register_39 (by decide) ?_
              refine ret _ _ _ _ _ _ rfl Z ?_ dX1_register_40
              exact ⟨rfl, rfl⟩
            · exact absurd c_7 (by decide)
      · skip
        refine ec_calli (Wf := MW G h ad) (σ := τ) (rest := []) F Z hA (m_sig0 l D G h ad _ τ s1 hs_12) (cwV 1 F.2.2.2.2 (lw_V q192 q194 qs13 q24 q195) rfl rfl rfl (by decide +kernel) ⟨Nat.le_of_ble_eq_true rfl, Nat.le_of_ble_eq_true rfl⟩) (em_recv Z) rfl hl.1 rfl (Nat.le_of_ble_eq_true rfl) dX1_register_12 ⟨Nat.le_of_ble_eq_true rfl, Nat.le_of_ble_eq_true rfl⟩ (fun r σ1 H locs hp Z => ?_)
        obtain ⟨hp1, hp2⟩ := hp
        rw [hp1]
        rw [hp2] at Z
        refine en_if_eq (tgt := 39) F (by omega) dX1_register_15 (by decide) (fun c_8 => ?_) (fun c_8 => ?_)
        · skip
          refine lv_iconst (v := (-1)) F.1 F.2.1 dX1_register_39 (by decide) ?_
          refine ret _ _ _ _ _ _ rfl Z ?_ dX1_register_40
          exact ⟨rfl, rfl⟩
        · exact absurd c_8 (by decide)
set_option maxHeartbeats 4000000 in
theorem m_free_m (l : Launch) (D : va_G) (G : ec_G) (h : Nat) (ad : Nat → Nat) (sz : Nat) (τ : MS) (k : Nat) (hk : k < 12) (hW : MWF τ) : ec_Mi l yX1_free cX1_free 2 (some .int) 2 D G (MW G h ad) h [.int (nI k)] τ sz (fun r τ' => r = (m_free τ k).1 ∧ τ' = (m_free τ k).2) := by
  refine ec_walk_i RX1 (by decide) rfl (Nat.le_of_ble_eq_true rfl) ?_
  intro p e s m below meth c A args Q F hA ret Z ls hl
  have hl : lv_has ls 2 [(0, .ref h), (1, .int (nI k))] := hl
  refine lv_aload_n F.1 F.2.1 dX1_free_0 rfl (lv_at hl 0 rfl) ?_
  refine lv_iload_n F.1 F.2.1 dX1_free_1 rfl (lv_at hl 1 rfl) ?_
  refine ec_calli (Wf := MW G h ad) (σ := τ) (rest := []) F Z hA (m_sig1 l D G h ad _ (τ) (nI k) (ec_sg_nI hk)) (cwV 1 F.2.2.2.2 (lw_V q192 q194 qs13 q24 q195) rfl rfl rfl (by decide +kernel) ⟨Nat.le_of_ble_eq_true rfl, Nat.le_of_ble_eq_true rfl⟩) (em_recv Z) rfl hl.1 rfl (Nat.le_of_ble_eq_true rfl) dX1_free_2 ⟨Nat.le_of_ble_eq_true rfl, Nat.le_of_ble_eq_true rfl⟩ (fun r σ1 H locs hp Z => ?_)
  obtain ⟨hp1, hp2⟩ := hp
  rw [hp1]
  rw [hp2] at Z
  refine en_if_ne (tgt := 10) F (by omega) dX1_free_5 (by decide) (fun c_1 => ?_) (fun c_1 => ?_)
  · skip
    refine lv_aload_n F.1 F.2.1 dX1_free_10 rfl (lv_at hl 0 rfl) ?_
    refine em_get F Z 0 (by decide) rfl rfl q163 dX1_free_11 ?_
    refine lv_iload_n F.1 F.2.1 dX1_free_14 rfl (lv_at hl 1 rfl) ?_
    refine lv_iconst (v := (nI 0)) F.1 F.2.1 dX1_free_15 (by decide) ?_
    refine en_iast (ws' := MW G h ad (msG τ (ec_up (mkd τ) k 0) (mop τ) (ma τ) (mb τ))) F Z 1 (mkd τ) rfl hk rfl dX1_free_16 (fun H locs Z => ?_)
    refine lv_aload_n F.1 F.2.1 dX1_free_17 rfl (lv_at hl 0 rfl) ?_
    refine ec_callv (Wf := MW G h ad) (σ := msG τ (ec_up (mkd τ) k 0) (mop τ) (ma τ) (mb τ)) (rest := []) F Z hA (m_settle_m l D G h ad _ (msG τ (ec_up (mkd τ) k 0) (mop τ) (ma τ) (mb τ)) (mwf_kd hW (by decide))) (cwV 0 F.2.2.2.2 (lw_V q212 q214 qs18 q24 q215) rfl rfl rfl (by decide +kernel) ⟨Nat.le_of_ble_eq_true rfl, Nat.le_of_ble_eq_true rfl⟩) (em_recv Z) rfl hl.1 rfl (Nat.le_of_ble_eq_true rfl) dX1_free_18 ⟨Nat.le_of_ble_eq_true rfl, Nat.le_of_ble_eq_true rfl⟩ (fun σ1 H locs hp Z => ?_)
    have hp : σ1 = m_fr τ k := hp
    rw [hp] at Z
    refine lv_aload_n F.1 F.2.1 dX1_free_21 rfl (lv_at hl 0 rfl) ?_
    refine em_get F Z 5 (by decide) rfl rfl q168 dX1_free_22 ?_
    refine lv_iload_n F.1 F.2.1 dX1_free_25 rfl (lv_at hl 1 rfl) ?_
    refine en_iald F Z 6 (mvl (m_fr τ k)) rfl hk dX1_free_26 ?_
    refine ret _ _ _ _ _ _ rfl Z ?_ dX1_free_27
    exact ⟨rfl, rfl⟩
  · exact absurd c_1 (by decide)
set_option maxHeartbeats 4000000 in
theorem m_value_m (l : Launch) (D : va_G) (G : ec_G) (h : Nat) (ad : Nat → Nat) (sz : Nat) (τ : MS) (k : Nat) (hk : k < 12) (hW : MWF τ) : ec_Mi l yX1_value cX1_value 2 (some .int) 1 D G (MW G h ad) h [.int (nI k)] τ sz (fun r τ' => r = nI (mvl τ k) ∧ τ' = τ) := by
  refine ec_walk_i RX1 (by decide) rfl (Nat.le_of_ble_eq_true rfl) ?_
  intro p e s m below meth c A args Q F hA ret Z ls hl
  have hl : lv_has ls 2 [(0, .ref h), (1, .int (nI k))] := hl
  refine lv_aload_n F.1 F.2.1 dX1_value_0 rfl (lv_at hl 0 rfl) ?_
  refine lv_iload_n F.1 F.2.1 dX1_value_1 rfl (lv_at hl 1 rfl) ?_
  refine ec_calli (Wf := MW G h ad) (σ := τ) (rest := []) F Z hA (m_sig1 l D G h ad _ (τ) (nI k) (ec_sg_nI hk)) (cwV 1 F.2.2.2.2 (lw_V q192 q194 qs13 q24 q195) rfl rfl rfl (by decide +kernel) ⟨Nat.le_of_ble_eq_true rfl, Nat.le_of_ble_eq_true rfl⟩) (em_recv Z) rfl hl.1 rfl (Nat.le_of_ble_eq_true rfl) dX1_value_2 ⟨Nat.le_of_ble_eq_true rfl, Nat.le_of_ble_eq_true rfl⟩ (fun r σ1 H locs hp Z => ?_)
  obtain ⟨hp1, hp2⟩ := hp
  rw [hp1]
  rw [hp2] at Z
  refine en_if_eq (tgt := 17) F (by omega) dX1_value_5 (by decide) (fun c_1 => ?_) (fun c_1 => ?_)
  · exact absurd c_1 (by decide)
  · skip
    refine lv_aload_n F.1 F.2.1 dX1_value_8 rfl (lv_at hl 0 rfl) ?_
    refine em_get F Z 5 (by decide) rfl rfl q168 dX1_value_9 ?_
    refine lv_iload_n F.1 F.2.1 dX1_value_12 rfl (lv_at hl 1 rfl) ?_
    refine en_iald F Z 6 (mvl τ) rfl hk dX1_value_13 ?_
    refine lv_goto (tgt := 18) F.1 F.2.1 dX1_value_14 (by decide) ?_
    refine ret _ _ _ _ _ _ rfl Z ?_ dX1_value_18
    exact ⟨rfl, rfl⟩
set_option maxHeartbeats 4000000 in
theorem m_kind_m (l : Launch) (D : va_G) (G : ec_G) (h : Nat) (ad : Nat → Nat) (sz : Nat) (τ : MS) (k : Nat) (hk : k < 12) (hW : MWF τ) : ec_Mi l yX1_kind cX1_kind 2 (some .int) 1 D G (MW G h ad) h [.int (nI k)] τ sz (fun r τ' => r = nI (mkd τ k) ∧ τ' = τ) := by
  refine ec_walk_i RX1 (by decide) rfl (Nat.le_of_ble_eq_true rfl) ?_
  intro p e s m below meth c A args Q F hA ret Z ls hl
  have hl : lv_has ls 2 [(0, .ref h), (1, .int (nI k))] := hl
  refine lv_aload_n F.1 F.2.1 dX1_kind_0 rfl (lv_at hl 0 rfl) ?_
  refine lv_iload_n F.1 F.2.1 dX1_kind_1 rfl (lv_at hl 1 rfl) ?_
  refine ec_calli (Wf := MW G h ad) (σ := τ) (rest := []) F Z hA (m_sig1 l D G h ad _ (τ) (nI k) (ec_sg_nI hk)) (cwV 1 F.2.2.2.2 (lw_V q192 q194 qs13 q24 q195) rfl rfl rfl (by decide +kernel) ⟨Nat.le_of_ble_eq_true rfl, Nat.le_of_ble_eq_true rfl⟩) (em_recv Z) rfl hl.1 rfl (Nat.le_of_ble_eq_true rfl) dX1_kind_2 ⟨Nat.le_of_ble_eq_true rfl, Nat.le_of_ble_eq_true rfl⟩ (fun r σ1 H locs hp Z => ?_)
  obtain ⟨hp1, hp2⟩ := hp
  rw [hp1]
  rw [hp2] at Z
  refine en_if_eq (tgt := 17) F (by omega) dX1_kind_5 (by decide) (fun c_1 => ?_) (fun c_1 => ?_)
  · exact absurd c_1 (by decide)
  · skip
    refine lv_aload_n F.1 F.2.1 dX1_kind_8 rfl (lv_at hl 0 rfl) ?_
    refine em_get F Z 0 (by decide) rfl rfl q163 dX1_kind_9 ?_
    refine lv_iload_n F.1 F.2.1 dX1_kind_12 rfl (lv_at hl 1 rfl) ?_
    refine en_iald F Z 1 (mkd τ) rfl hk dX1_kind_13 ?_
    refine lv_goto (tgt := 18) F.1 F.2.1 dX1_kind_14 (by decide) ?_
    refine ret _ _ _ _ _ _ rfl Z ?_ dX1_kind_18
    exact ⟨rfl, rfl⟩
set_option maxHeartbeats 4000000 in
theorem m_hanging_m (l : Launch) (D : va_G) (G : ec_G) (h : Nat) (ad : Nat → Nat) (sz : Nat) (τ : MS) (k : Nat) (hk : k < 12) (hW : MWF τ) : ec_Mi l yX1_hanging cX1_hanging 4 (some .int) 1 D G (MW G h ad) h [.int (nI k)] τ sz (fun r τ' => r = nI (m_hang τ k) ∧ τ' = m_find τ) := by
  refine ec_walk_i RX1 (by decide) rfl (Nat.le_of_ble_eq_true rfl) ?_
  intro p e s m below meth c A args Q F hA ret Z ls hl
  have hl : lv_has ls 4 [(0, .ref h), (1, .int (nI k))] := hl
  refine lv_aload_n F.1 F.2.1 dX1_hanging_0 rfl (lv_at hl 0 rfl) ?_
  refine lv_iload_n F.1 F.2.1 dX1_hanging_1 rfl (lv_at hl 1 rfl) ?_
  refine ec_calli (Wf := MW G h ad) (σ := τ) (rest := []) F Z hA (m_sig1 l D G h ad _ (τ) (nI k) (ec_sg_nI hk)) (cwV 1 F.2.2.2.2 (lw_V q192 q194 qs13 q24 q195) rfl rfl rfl (by decide +kernel) ⟨Nat.le_of_ble_eq_true rfl, Nat.le_of_ble_eq_true rfl⟩) (em_recv Z) rfl hl.1 rfl (Nat.le_of_ble_eq_true rfl) dX1_hanging_2 ⟨Nat.le_of_ble_eq_true rfl, Nat.le_of_ble_eq_true rfl⟩ (fun r σ1 H locs hp Z => ?_)
  obtain ⟨hp1, hp2⟩ := hp
  rw [hp1]
  rw [hp2] at Z
  refine en_if_ne (tgt := 10) F (by omega) dX1_hanging_5 (by decide) (fun c_1 => ?_) (fun c_1 => ?_)
  · skip
    refine lv_aload_n F.1 F.2.1 dX1_hanging_10 rfl (lv_at hl 0 rfl) ?_
    refine ec_callv (Wf := MW G h ad) (σ := τ) (rest := []) F Z hA (m_find_m l D G h ad _ τ hW) (cwV 0 F.2.2.2.2 (lw_V q208 q210 qs17 q24 q211) rfl rfl rfl (by decide +kernel) ⟨Nat.le_of_ble_eq_true rfl, Nat.le_of_ble_eq_true rfl⟩) (em_recv Z) rfl hl.1 rfl (Nat.le_of_ble_eq_true rfl) dX1_hanging_11 ⟨Nat.le_of_ble_eq_true rfl, Nat.le_of_ble_eq_true rfl⟩ (fun σ1 H locs hp Z => ?_)
    have hp : σ1 = m_find τ := hp
    rw [hp] at Z
    refine lv_iconst (v := (nI 0)) F.1 F.2.1 dX1_hanging_14 (by decide) ?_
    refine lv_istore_n (lv' := [(2, .int (nI 0)), (0, .ref h), (1, .int (nI k))]) F.1 F.2.1 dX1_hanging_15 rfl hl (by decide) rfl (fun ls hl => ?_)
    refine lv_iconst (v := (nI 0)) F.1 F.2.1 dX1_hanging_16 (by decide) ?_
    refine lv_istore_n (lv' := [(3, .int (nI 0)), (2, .int (nI 0)), (0, .ref h), (1, .int (nI k))]) F.1 F.2.1 dX1_hanging_17 rfl hl (by decide) rfl (fun ls hl => ?_)
    refine ec_lp_run (S := Nat) (ec_hs (mon (m_find τ)) k) (fun i z => True) (fun i z => ∀ (H : Heap) (locs : List Loc), ec_Z D G A s (MW G h ad (m_find τ)) H locs → ∀ ls : Array Slot, lv_has ls 4 [(3, .int (nI i)), (2, .int (nI z)), (0, .ref h), (1, .int (nI k))] → W p l e (ec_rm 1) s m args below meth c H locs 0 0 Q (F0 m 18 ls [])) 12 (fun _ _ _ _ => trivial) ?_ 12 0 0 (Nat.zero_add _) trivial ?_ _ _ Z ls (lv_sub hl [0, 1, 2, 3] rfl)
    · intro i z hi_i hz_i kk_i H locs Z ls hl
      refine lv_iload_n F.1 F.2.1 dX1_hanging_18 rfl (lv_at hl 0 rfl) ?_
      refine lv_bipush (v := (nI 12)) F.1 F.2.1 dX1_hanging_19 (by decide) ?_
      refine en_icmp_ge (tgt := 50) F (Nat.lt_of_lt_of_le hi_i (by decide)) (by omega) dX1_hanging_21 (by decide) (fun c_2 => ?_) (fun c_2 => ?_)
      · exact absurd hi_i (Nat.not_lt.mpr c_2)
      · skip
        refine lv_aload_n F.1 F.2.1 dX1_hanging_24 rfl (lv_at hl 2 rfl) ?_
        refine em_get F Z 7 (by decide) rfl rfl q170 dX1_hanging_25 ?_
        refine lv_iload_n F.1 F.2.1 dX1_hanging_28 rfl (lv_at hl 0 rfl) ?_
        refine en_iald F Z 8 (mon (m_find τ)) rfl hi_i dX1_hanging_29 ?_
        refine lv_iload_n F.1 F.2.1 dX1_hanging_30 rfl (lv_at hl 3 rfl) ?_
        refine en_ishr F (Nat.lt_of_lt_of_le ((m_find_lt hW) _ hi_i) (by decide)) (Nat.lt_of_lt_of_le hk (by decide)) dX1_hanging_31 ?_
        refine lv_iconst (v := (nI 1)) F.1 F.2.1 dX1_hanging_32 (by decide) ?_
        refine en_iand1 F dX1_hanging_33 ?_
        refine lv_iconst (v := (nI 1)) F.1 F.2.1 dX1_hanging_34 (by decide) ?_
        refine en_icmpb_ne (tgt := 44) F dX1_hanging_35 (by decide) (fun c_3 => ?_) (fun c_3 => ?_)
        · skip
          refine en_iinc (lv' := [(3, .int (nI (i + 1))), (2, .int (nI z)), (0, .ref h), (1, .int (nI k))]) F dX1_hanging_44 hl (k := 0) rfl (by decide) rfl (fun ls hl => ?_)
          refine lv_goto (tgt := 18) F.1 F.2.1 dX1_hanging_47 (by decide) ?_
          have ez : (ec_hs (mon (m_find τ)) k) i z = z := by simp [ec_hs, c_3]
          rw [ez] at kk_i
          exact kk_i _ _ Z ls (lv_sub hl [0, 1, 2, 3] rfl)
        · skip
          refine lv_iload_n F.1 F.2.1 dX1_hanging_38 rfl (lv_at hl 1 rfl) ?_
          refine lv_iconst (v := (nI 1)) F.1 F.2.1 dX1_hanging_39 (by decide) ?_
          refine lv_iload_n F.1 F.2.1 dX1_hanging_40 rfl (lv_at hl 0 rfl) ?_
          refine en_ishl F (Nat.lt_of_lt_of_le hi_i (by decide)) dX1_hanging_41 ?_
          refine en_ior F dX1_hanging_42 ?_
          refine lv_istore_n (lv' := [(2, .int (nI (z ||| (2 ^ i)))), (3, .int (nI i)), (0, .ref h), (1, .int (nI k))]) F.1 F.2.1 dX1_hanging_43 rfl hl (by decide) rfl (fun ls hl => ?_)
          refine en_iinc (lv' := [(3, .int (nI (i + 1))), (2, .int (nI (z ||| (2 ^ i)))), (0, .ref h), (1, .int (nI k))]) F dX1_hanging_44 hl (k := 1) rfl (by decide) rfl (fun ls hl => ?_)
          refine lv_goto (tgt := 18) F.1 F.2.1 dX1_hanging_47 (by decide) ?_
          have ez : (ec_hs (mon (m_find τ)) k) i z = (z ||| 2 ^ i) := by simp [ec_hs, c_3]
          rw [ez] at kk_i
          exact kk_i _ _ Z ls (lv_sub hl [0, 1, 2, 3] rfl)
    · intro H locs Z ls hl
      refine lv_iload_n F.1 F.2.1 dX1_hanging_18 rfl (lv_at hl 0 rfl) ?_
      refine lv_bipush (v := (nI 12)) F.1 F.2.1 dX1_hanging_19 (by decide) ?_
      refine en_icmp_ge (tgt := 50) F (by omega) (by omega) dX1_hanging_21 (by decide) (fun c_4 => ?_) (fun c_4 => ?_)
      · skip
        refine lv_iload_n F.1 F.2.1 dX1_hanging_50 rfl (lv_at hl 1 rfl) ?_
        refine ret _ _ _ _ _ _ rfl Z ?_ dX1_hanging_51
        exact ⟨rfl, rfl⟩
      · exact absurd c_4 (by decide)
  · exact absurd c_1 (by decide)
set_option maxHeartbeats 4000000 in
theorem m_value_b (l : Launch) (D : va_G) (G : ec_G) (h : Nat) (ad : Nat → Nat) (sz : Nat) (τ : MS) (s1 : Int32) (hbad : ¬ ec_sg s1) : ec_Mi l yX1_value cX1_value 2 (some .int) 1 D G (MW G h ad) h [.int s1] τ sz (fun r τ' => r = -1 ∧ τ' = τ) := by
  refine ec_walk_i RX1 (by decide) rfl (Nat.le_of_ble_eq_true rfl) ?_
  intro p e s m below meth c A args Q F hA ret Z ls hl
  have hl : lv_has ls 2 [(0, .ref h), (1, .int s1)] := hl
  refine lv_aload_n F.1 F.2.1 dX1_value_0 rfl (lv_at hl 0 rfl) ?_
  refine lv_iload_n F.1 F.2.1 dX1_value_1 rfl (lv_at hl 1 rfl) ?_
  by_cases hs_2 : ec_sg s1
  · skip
    refine ec_calli (Wf := MW G h ad) (σ := τ) (rest := []) F Z hA (m_sig1 l D G h ad _ τ s1 hs_2) (cwV 1 F.2.2.2.2 (lw_V q192 q194 qs13 q24 q195) rfl rfl rfl (by decide +kernel) ⟨Nat.le_of_ble_eq_true rfl, Nat.le_of_ble_eq_true rfl⟩) (em_recv Z) rfl hl.1 rfl (Nat.le_of_ble_eq_true rfl) dX1_value_2 ⟨Nat.le_of_ble_eq_true rfl, Nat.le_of_ble_eq_true rfl⟩ (fun r σ1 H locs hp Z => ?_)
    obtain ⟨hp1, hp2⟩ := hp
    rw [hp1]
    rw [hp2] at Z
    exact absurd hs_2 hbad
  · skip
    refine ec_calli (Wf := MW G h ad) (σ := τ) (rest := []) F Z hA (m_sig0 l D G h ad _ τ s1 hs_2) (cwV 1 F.2.2.2.2 (lw_V q192 q194 qs13 q24 q195) rfl rfl rfl (by decide +kernel) ⟨Nat.le_of_ble_eq_true rfl, Nat.le_of_ble_eq_true rfl⟩) (em_recv Z) rfl hl.1 rfl (Nat.le_of_ble_eq_true rfl) dX1_value_2 ⟨Nat.le_of_ble_eq_true rfl, Nat.le_of_ble_eq_true rfl⟩ (fun r σ1 H locs hp Z => ?_)
    obtain ⟨hp1, hp2⟩ := hp
    rw [hp1]
    rw [hp2] at Z
    refine en_if_eq (tgt := 17) F (by omega) dX1_value_5 (by decide) (fun c_1 => ?_) (fun c_1 => ?_)
    · skip
      refine lv_iconst (v := (-1)) F.1 F.2.1 dX1_value_17 (by decide) ?_
      refine ret _ _ _ _ _ _ rfl Z ?_ dX1_value_18
      exact ⟨rfl, rfl⟩
    · exact absurd c_1 (by decide)
set_option maxHeartbeats 4000000 in
theorem m_kind_b (l : Launch) (D : va_G) (G : ec_G) (h : Nat) (ad : Nat → Nat) (sz : Nat) (τ : MS) (s1 : Int32) (hbad : ¬ ec_sg s1) : ec_Mi l yX1_kind cX1_kind 2 (some .int) 1 D G (MW G h ad) h [.int s1] τ sz (fun r τ' => r = -1 ∧ τ' = τ) := by
  refine ec_walk_i RX1 (by decide) rfl (Nat.le_of_ble_eq_true rfl) ?_
  intro p e s m below meth c A args Q F hA ret Z ls hl
  have hl : lv_has ls 2 [(0, .ref h), (1, .int s1)] := hl
  refine lv_aload_n F.1 F.2.1 dX1_kind_0 rfl (lv_at hl 0 rfl) ?_
  refine lv_iload_n F.1 F.2.1 dX1_kind_1 rfl (lv_at hl 1 rfl) ?_
  by_cases hs_2 : ec_sg s1
  · skip
    refine ec_calli (Wf := MW G h ad) (σ := τ) (rest := []) F Z hA (m_sig1 l D G h ad _ τ s1 hs_2) (cwV 1 F.2.2.2.2 (lw_V q192 q194 qs13 q24 q195) rfl rfl rfl (by decide +kernel) ⟨Nat.le_of_ble_eq_true rfl, Nat.le_of_ble_eq_true rfl⟩) (em_recv Z) rfl hl.1 rfl (Nat.le_of_ble_eq_true rfl) dX1_kind_2 ⟨Nat.le_of_ble_eq_true rfl, Nat.le_of_ble_eq_true rfl⟩ (fun r σ1 H locs hp Z => ?_)
    obtain ⟨hp1, hp2⟩ := hp
    rw [hp1]
    rw [hp2] at Z
    exact absurd hs_2 hbad
  · skip
    refine ec_calli (Wf := MW G h ad) (σ := τ) (rest := []) F Z hA (m_sig0 l D G h ad _ τ s1 hs_2) (cwV 1 F.2.2.2.2 (lw_V q192 q194 qs13 q24 q195) rfl rfl rfl (by decide +kernel) ⟨Nat.le_of_ble_eq_true rfl, Nat.le_of_ble_eq_true rfl⟩) (em_recv Z) rfl hl.1 rfl (Nat.le_of_ble_eq_true rfl) dX1_kind_2 ⟨Nat.le_of_ble_eq_true rfl, Nat.le_of_ble_eq_true rfl⟩ (fun r σ1 H locs hp Z => ?_)
    obtain ⟨hp1, hp2⟩ := hp
    rw [hp1]
    rw [hp2] at Z
    refine en_if_eq (tgt := 17) F (by omega) dX1_kind_5 (by decide) (fun c_1 => ?_) (fun c_1 => ?_)
    · skip
      refine lv_iconst (v := (-1)) F.1 F.2.1 dX1_kind_17 (by decide) ?_
      refine ret _ _ _ _ _ _ rfl Z ?_ dX1_kind_18
      exact ⟨rfl, rfl⟩
    · exact absurd c_1 (by decide)
set_option maxHeartbeats 4000000 in
theorem m_hanging_b (l : Launch) (D : va_G) (G : ec_G) (h : Nat) (ad : Nat → Nat) (sz : Nat) (τ : MS) (s1 : Int32) (hbad : ¬ ec_sg s1) : ec_Mi l yX1_hanging cX1_hanging 4 (some .int) 1 D G (MW G h ad) h [.int s1] τ sz (fun r τ' => r = -1 ∧ τ' = τ) := by
  refine ec_walk_i RX1 (by decide) rfl (Nat.le_of_ble_eq_true rfl) ?_
  intro p e s m below meth c A args Q F hA ret Z ls hl
  have hl : lv_has ls 4 [(0, .ref h), (1, .int s1)] := hl
  refine lv_aload_n F.1 F.2.1 dX1_hanging_0 rfl (lv_at hl 0 rfl) ?_
  refine lv_iload_n F.1 F.2.1 dX1_hanging_1 rfl (lv_at hl 1 rfl) ?_
  by_cases hs_2 : ec_sg s1
  · skip
    refine ec_calli (Wf := MW G h ad) (σ := τ) (rest := []) F Z hA (m_sig1 l D G h ad _ τ s1 hs_2) (cwV 1 F.2.2.2.2 (lw_V q192 q194 qs13 q24 q195) rfl rfl rfl (by decide +kernel) ⟨Nat.le_of_ble_eq_true rfl, Nat.le_of_ble_eq_true rfl⟩) (em_recv Z) rfl hl.1 rfl (Nat.le_of_ble_eq_true rfl) dX1_hanging_2 ⟨Nat.le_of_ble_eq_true rfl, Nat.le_of_ble_eq_true rfl⟩ (fun r σ1 H locs hp Z => ?_)
    obtain ⟨hp1, hp2⟩ := hp
    rw [hp1]
    rw [hp2] at Z
    exact absurd hs_2 hbad
  · skip
    refine ec_calli (Wf := MW G h ad) (σ := τ) (rest := []) F Z hA (m_sig0 l D G h ad _ τ s1 hs_2) (cwV 1 F.2.2.2.2 (lw_V q192 q194 qs13 q24 q195) rfl rfl rfl (by decide +kernel) ⟨Nat.le_of_ble_eq_true rfl, Nat.le_of_ble_eq_true rfl⟩) (em_recv Z) rfl hl.1 rfl (Nat.le_of_ble_eq_true rfl) dX1_hanging_2 ⟨Nat.le_of_ble_eq_true rfl, Nat.le_of_ble_eq_true rfl⟩ (fun r σ1 H locs hp Z => ?_)
    obtain ⟨hp1, hp2⟩ := hp
    rw [hp1]
    rw [hp2] at Z
    refine en_if_ne (tgt := 10) F (by omega) dX1_hanging_5 (by decide) (fun c_1 => ?_) (fun c_1 => ?_)
    · exact absurd c_1 (by decide)
    · skip
      refine lv_iconst (v := (-1)) F.1 F.2.1 dX1_hanging_8 (by decide) ?_
      refine ret _ _ _ _ _ _ rfl Z ?_ dX1_hanging_9
      exact ⟨rfl, rfl⟩
set_option maxHeartbeats 4000000 in
theorem m_free_b (l : Launch) (D : va_G) (G : ec_G) (h : Nat) (ad : Nat → Nat) (sz : Nat) (τ : MS) (s1 : Int32) (hbad : ¬ ec_sg s1) : ec_Mi l yX1_free cX1_free 2 (some .int) 2 D G (MW G h ad) h [.int s1] τ sz (fun r τ' => r = -1 ∧ τ' = τ) := by
  refine ec_walk_i RX1 (by decide) rfl (Nat.le_of_ble_eq_true rfl) ?_
  intro p e s m below meth c A args Q F hA ret Z ls hl
  have hl : lv_has ls 2 [(0, .ref h), (1, .int s1)] := hl
  refine lv_aload_n F.1 F.2.1 dX1_free_0 rfl (lv_at hl 0 rfl) ?_
  refine lv_iload_n F.1 F.2.1 dX1_free_1 rfl (lv_at hl 1 rfl) ?_
  by_cases hs_2 : ec_sg s1
  · skip
    refine ec_calli (Wf := MW G h ad) (σ := τ) (rest := []) F Z hA (m_sig1 l D G h ad _ τ s1 hs_2) (cwV 1 F.2.2.2.2 (lw_V q192 q194 qs13 q24 q195) rfl rfl rfl (by decide +kernel) ⟨Nat.le_of_ble_eq_true rfl, Nat.le_of_ble_eq_true rfl⟩) (em_recv Z) rfl hl.1 rfl (Nat.le_of_ble_eq_true rfl) dX1_free_2 ⟨Nat.le_of_ble_eq_true rfl, Nat.le_of_ble_eq_true rfl⟩ (fun r σ1 H locs hp Z => ?_)
    obtain ⟨hp1, hp2⟩ := hp
    rw [hp1]
    rw [hp2] at Z
    exact absurd hs_2 hbad
  · skip
    refine ec_calli (Wf := MW G h ad) (σ := τ) (rest := []) F Z hA (m_sig0 l D G h ad _ τ s1 hs_2) (cwV 1 F.2.2.2.2 (lw_V q192 q194 qs13 q24 q195) rfl rfl rfl (by decide +kernel) ⟨Nat.le_of_ble_eq_true rfl, Nat.le_of_ble_eq_true rfl⟩) (em_recv Z) rfl hl.1 rfl (Nat.le_of_ble_eq_true rfl) dX1_free_2 ⟨Nat.le_of_ble_eq_true rfl, Nat.le_of_ble_eq_true rfl⟩ (fun r σ1 H locs hp Z => ?_)
    obtain ⟨hp1, hp2⟩ := hp
    rw [hp1]
    rw [hp2] at Z
    refine en_if_ne (tgt := 10) F (by omega) dX1_free_5 (by decide) (fun c_1 => ?_) (fun c_1 => ?_)
    · exact absurd c_1 (by decide)
    · skip
      refine lv_iconst (v := (-1)) F.1 F.2.1 dX1_free_8 (by decide) ?_
      refine ret _ _ _ _ _ _ rfl Z ?_ dX1_free_9
      exact ⟨rfl, rfl⟩
end
section
/-! constructors: every array is new and holds zeros -/
set_option maxRecDepth 100000
abbrev X_fs0 : List Value := [.null, .null, .null, .null, .null, .null, .null, .null, .int (nI 0), .int (nI 0), .null]
abbrev M_fs0 : List Value := [.null, .null, .null, .null, .null, .null, .null, .null]
section EcIni
variable {p : Program} {l : Launch} {e : Env} {R : Room} {s : State} {m : MethodId} {args : Array Value} {below : List Frame} {meth : Method} {c : Code} {H : Heap} {locs : List Loc} {cells slots : Nat} {Q : State → Prop}
variable {cc : ByteArray} {pc : Nat} {ls : Array Slot} {rest : List Value} {D : va_G} {G : ec_G} {A : Nat → Prop} {nL : Nat} {own : String} {ws ws' : va_W}
theorem ec_newb (F : CallFix p m c cc nL s args lw_all own) (Z : ec_Z D G A s ws H locs) (hA : ∀ q, s.heap.size ≤ q → A q) (hc : cells + 1 ≤ R.cells) (hs : slots + 12 ≤ R.slots) (hd : decode cc pc = .ok (.newarray .byte, 2))
    (kk : ∀ (q : Nat) (H1 : Heap), ec_Z D G A s (ws ++ [(q, ec_ar G.1 (fun _ => 0))]) H1 locs → W p l e R s m args below meth c H1 locs (cells + 1) (slots + 12) Q (F0 m (pc + 2) ls (.ref q :: rest))) : W p l e R s m args below meth c H locs cells slots Q (F0 m pc ls (.int (nI 12) :: rest)) := by
  refine va_newa (atype := .byte) (ty := .byte) (a0 := (12, .inl (fun _ => nI 0))) F.1 F.2.1 (F.2.2.2.2 _ q67) rfl Z.1 Z.2.1 Z.2.2.1 Z.2.2.2 hA (fun cA => rfl) (by decide) (by decide) (by decide) hc hs hd (fun q cA H1 hK hP hD hS => ?_)
  have h1 : s.vm.findClass ("[" ++ (FieldType.byte).toString) = some cA := (hK.2 2 (cA, .byte) rfl).2
  have h2 : s.vm.findClass ("[" ++ (FieldType.byte).toString) = some G.1 := (Z.1.2 0 (G.1, .byte) rfl).2
  have e : cA = G.1 := Option.some.inj (h1.symm.trans h2)
  subst e
  exact kk q H1 ⟨Z.1, hP, hD, hS⟩
theorem ec_newi (F : CallFix p m c cc nL s args lw_all own) (Z : ec_Z D G A s ws H locs) (hA : ∀ q, s.heap.size ≤ q → A q) (hc : cells + 1 ≤ R.cells) (hs : slots + 12 ≤ R.slots) (hd : decode cc pc = .ok (.newarray .int, 2))
    (kk : ∀ (q : Nat) (H1 : Heap), ec_Z D G A s (ws ++ [(q, ec_ar G.2 (fun _ => 0))]) H1 locs → W p l e R s m args below meth c H1 locs (cells + 1) (slots + 12) Q (F0 m (pc + 2) ls (.ref q :: rest))) : W p l e R s m args below meth c H locs cells slots Q (F0 m pc ls (.int (nI 12) :: rest)) := by
  refine va_newa (atype := .int) (ty := .int) (a0 := (12, .inl (fun _ => nI 0))) F.1 F.2.1 (F.2.2.2.2 _ q68) rfl Z.1 Z.2.1 Z.2.2.1 Z.2.2.2 hA (fun cA => rfl) (by decide) (by decide) (by decide) hc hs hd (fun q cA H1 hK hP hD hS => ?_)
  have h1 : s.vm.findClass ("[" ++ (FieldType.int).toString) = some cA := (hK.2 2 (cA, .int) rfl).2
  have h2 : s.vm.findClass ("[" ++ (FieldType.int).toString) = some G.2 := (Z.1.2 1 (G.2, .int) rfl).2
  have e : cA = G.2 := Option.some.inj (h1.symm.trans h2)
  subst e
  exact kk q H1 ⟨Z.1, hP, hD, hS⟩
theorem ex_ini {h q : Nat} {fs : List Value} {wr : va_W} {k idx : Nat} {ty : FieldType} (F : CallFix p m c cc nL s args lw_all RX0) (hin : meth.name = "<init>") (Z : ec_Z D G A s ((h, .inr (0, fs)) :: wr) H locs) (hk : k < 11) (hn : (TX0 k).1 = RX0) (hfin : (TX0 k).2.2.2 = true) (hl : Cond.fieldLink RX0 idx RX0 (TX0 k).2.1 (TX0 k).2.2.1 ∈ lw_all) (hty : parseFieldDescriptor (TX0 k).2.2.1 = some ty) (hnr : narrow ty (.ref q) = .ref q) (hft : fits ty (.ref q) = true) (hlen : k < fs.length) (hd : decode cc pc = .ok (.putfield idx, 3))
    (kk : ∀ (H1 : Heap) (locs1 : List Loc), ec_Z D G A s ((h, .inr (0, fs.set k (.ref q))) :: wr) H1 locs1 → W p l e R s m args below meth c H1 locs1 cells slots Q (F0 m (pc + 3) ls rest)) : W p l e R s m args below meth c H locs cells slots Q (F0 m pc ls (.ref q :: .ref h :: rest)) :=
  va_putF (D := D) (ci := 0) (v := .ref q) (ty := ty) (C := RX0) (T := TX0) (N := 11) F.1 F.2.1 F.2.2.2.2 in_X0 tyX0 tyX0_ok nmX0 F.2.2.2.1 Z.1 Z.2.1 Z.2.2.1 Z.2.2.2 0 rfl rfl k hk (F.2.2.2.2 _ hl) (fun _ h9 => by rw [hn] at h9; exact h9) hfin hin hn hty hnr hft hlen hd (fun H1 locs1 hP hD hS => kk H1 locs1 ⟨Z.1, hP, hD, hS⟩)
theorem em_ini {h q : Nat} {fs : List Value} {wr : va_W} {k idx : Nat} {ty : FieldType} (F : CallFix p m c cc nL s args lw_all RX1) (Z : ec_Z D G A s ((h, .inr (1, fs)) :: wr) H locs) (hk : k < 8) (hn : (TX1 k).1 = RX1) (hfin : (TX1 k).2.2.2 = false) (hl : Cond.fieldLink RX1 idx RX1 (TX1 k).2.1 (TX1 k).2.2.1 ∈ lw_all) (hty : parseFieldDescriptor (TX1 k).2.2.1 = some ty) (hnr : narrow ty (.ref q) = .ref q) (hft : fits ty (.ref q) = true) (hlen : k < fs.length) (hd : decode cc pc = .ok (.putfield idx, 3))
    (kk : ∀ (H1 : Heap) (locs1 : List Loc), ec_Z D G A s ((h, .inr (1, fs.set k (.ref q))) :: wr) H1 locs1 → W p l e R s m args below meth c H1 locs1 cells slots Q (F0 m (pc + 3) ls rest)) : W p l e R s m args below meth c H locs cells slots Q (F0 m pc ls (.ref q :: .ref h :: rest)) :=
  va_put (D := D) (ci := 1) (v := .ref q) (ty := ty) (C := RX1) (T := TX1) (N := 8) F.1 F.2.1 F.2.2.2.2 in_X1 tyX1 tyX1_ok nmX1 F.2.2.2.1 Z.1 Z.2.1 Z.2.2.1 Z.2.2.2 0 rfl rfl k hk (F.2.2.2.2 _ hl) (fun _ h9 => by rw [hn] at h9; exact h9) hfin hty hnr hft hlen hd (fun H1 locs1 hP hD hS => kk H1 locs1 ⟨Z.1, hP, hD, hS⟩)
end EcIni
set_option maxHeartbeats 4000000 in
/-- EventCircuit(): every array is new, all zero -/
theorem x_init_m (l : Launch) (D : va_G) (G : ec_G) (h : Nat) (sz : Nat) : Met l yX0_init (ws_ yX0_init cX0_init 1 none) { frames := 1, cells := 9, slots := 108, locals := 30 } (va_Pc [.ref h] (ec_Pre D G [(h, .inr (0, X_fs0))] sz)) (va_Qv (fun _ : Nat → Nat => True) (ec_Pst D G (va_A [(h, .inr (0, X_fs0))] sz) (fun ad => XW G h ad x_0)) (va_A [(h, .inr (0, X_fs0))] sz)) 9 108 (va_A [(h, .inr (0, X_fs0))] sz) := by
  refine Met.ofW (cc := cX0_init) (maxL := 1) (ret := none) (by decide) rfl ?_
  intro p e s m args below meth c s₁ B hml hv
  obtain ⟨rfl, hsz, hP, hK, hD0⟩ := hv
  have hts := atoms_spec (ws := ws_ yX0_init cX0_init 1 none) B.pre
  have hts : ∀ w ∈ lw_all, w.before _ s = true := fun w h => hts w (List.mem_cons_of_mem _ h)
  have hown : s.vm.findClass RX0 = some m.cls := findClass_of_methodNamed B.named
  have hlocks := B.notSynchronized
  have hin : meth.name = "<init>" := (name_of_methodNamed B.named B.method).1
  have hr := B.returns
  subst hsz
  have F : CallFix p m c cX0_init 1 s _ lw_all RX0 := ⟨B.exec, B.bytes, hml, hown, hts⟩
  have hD := hD0.self (sz := s.heap.size)
  generalize hAe : va_A [(h, .inr (0, X_fs0))] s.heap.size = A at hD ⊢
  have hA : ∀ q : Nat, s.heap.size ≤ q → A q := fun q h => by rw [← hAe]; exact Or.inr h
  have Z : ec_Z D G A s [(h, .inr (0, X_fs0))] s.heap [] := ⟨hK, hP, hD, va_S.rf⟩
  have hl := lv_entry ([.ref h]) (n := 1) (Nat.le_of_ble_eq_true rfl)
  rw [lg_entry_eq]
  generalize (lg_sl ([.ref h]) ++ List.replicate (1 - (lg_sl ([.ref h])).length) Slot.unset).toArray = ls at hl ⊢
  have hl : lv_has ls 1 [(0, .ref h)] := hl
  refine lv_aload_n F.1 F.2.1 dX0_init_0 rfl (lv_at hl 0 rfl) ?_
  refine W.objInit F.1 F.2.1 F.2.2.2.1 (F.2.2.2.2 _ q30) (F.2.2.2.2 _ q31) (F.2.2.2.2 _ q32) rfl (by rw [hml]; exact hl.1) rfl dX0_init_1 (Nat.le_of_ble_eq_true rfl) (Nat.le_of_ble_eq_true rfl) ?_
  refine W.eq (g2 := F0 m 4 ls []) rfl ?_
  refine lv_aload_n F.1 F.2.1 dX0_init_4 rfl (lv_at hl 0 rfl) ?_
  refine lv_bipush (v := nI 12) F.1 F.2.1 dX0_init_5 (by decide) ?_
  refine ec_newb F Z hA (Nat.le_of_ble_eq_true rfl) (Nat.le_of_ble_eq_true rfl) dX0_init_7 (fun q0 H Z => ?_)
  have Z : ec_Z D G A s ((h, .inr (0, [.null, .null, .null, .null, .null, .null, .null, .null, .int (nI 0), .int (nI 0), .null])) :: [(q0, ec_ar G.1 (fun _ => 0))]) H [] := Z
  refine ex_ini (k := 0) (ty := .array .byte) F hin Z (by decide) rfl rfl q33 (by decide +kernel) rfl rfl (Nat.le_of_ble_eq_true rfl) dX0_init_9 (fun H locs Z => ?_)
  have Z : ec_Z D G A s ((h, .inr (0, [.ref q0, .null, .null, .null, .null, .null, .null, .null, .int (nI 0), .int (nI 0), .null])) :: [(q0, ec_ar G.1 (fun _ => 0))]) H locs := Z
  refine lv_aload_n F.1 F.2.1 dX0_init_12 rfl (lv_at hl 0 rfl) ?_
  refine lv_bipush (v := nI 12) F.1 F.2.1 dX0_init_13 (by decide) ?_
  refine ec_newb F Z hA (Nat.le_of_ble_eq_true rfl) (Nat.le_of_ble_eq_true rfl) dX0_init_15 (fun q1 H Z => ?_)
  have Z : ec_Z D G A s ((h, .inr (0, [.ref q0, .null, .null, .null, .null, .null, .null, .null, .int (nI 0), .int (nI 0), .null])) :: [(q0, ec_ar G.1 (fun _ => 0)), (q1, ec_ar G.1 (fun _ => 0))]) H locs := Z
  refine ex_ini (k := 1) (ty := .array .byte) F hin Z (by decide) rfl rfl q34 (by decide +kernel) rfl rfl (Nat.le_of_ble_eq_true rfl) dX0_init_17 (fun H locs Z => ?_)
  have Z : ec_Z D G A s ((h, .inr (0, [.ref q0, .ref q1, .null, .null, .null, .null, .null, .null, .int (nI 0), .int (nI 0), .null])) :: [(q0, ec_ar G.1 (fun _ => 0)), (q1, ec_ar G.1 (fun _ => 0))]) H locs := Z
  refine lv_aload_n F.1 F.2.1 dX0_init_20 rfl (lv_at hl 0 rfl) ?_
  refine lv_bipush (v := nI 12) F.1 F.2.1 dX0_init_21 (by decide) ?_
  refine ec_newb F Z hA (Nat.le_of_ble_eq_true rfl) (Nat.le_of_ble_eq_true rfl) dX0_init_23 (fun q2 H Z => ?_)
  have Z : ec_Z D G A s ((h, .inr (0, [.ref q0, .ref q1, .null, .null, .null, .null, .null, .null, .int (nI 0), .int (nI 0), .null])) :: [(q0, ec_ar G.1 (fun _ => 0)), (q1, ec_ar G.1 (fun _ => 0)), (q2, ec_ar G.1 (fun _ => 0))]) H locs := Z
  refine ex_ini (k := 2) (ty := .array .byte) F hin Z (by decide) rfl rfl q35 (by decide +kernel) rfl rfl (Nat.le_of_ble_eq_true rfl) dX0_init_25 (fun H locs Z => ?_)
  have Z : ec_Z D G A s ((h, .inr (0, [.ref q0, .ref q1, .ref q2, .null, .null, .null, .null, .null, .int (nI 0), .int (nI 0), .null])) :: [(q0, ec_ar G.1 (fun _ => 0)), (q1, ec_ar G.1 (fun _ => 0)), (q2, ec_ar G.1 (fun _ => 0))]) H locs := Z
  refine lv_aload_n F.1 F.2.1 dX0_init_28 rfl (lv_at hl 0 rfl) ?_
  refine lv_bipush (v := nI 12) F.1 F.2.1 dX0_init_29 (by decide) ?_
  refine ec_newb F Z hA (Nat.le_of_ble_eq_true rfl) (Nat.le_of_ble_eq_true rfl) dX0_init_31 (fun q3 H Z => ?_)
  have Z : ec_Z D G A s ((h, .inr (0, [.ref q0, .ref q1, .ref q2, .null, .null, .null, .null, .null, .int (nI 0), .int (nI 0), .null])) :: [(q0, ec_ar G.1 (fun _ => 0)), (q1, ec_ar G.1 (fun _ => 0)), (q2, ec_ar G.1 (fun _ => 0)), (q3, ec_ar G.1 (fun _ => 0))]) H locs := Z
  refine ex_ini (k := 3) (ty := .array .byte) F hin Z (by decide) rfl rfl q36 (by decide +kernel) rfl rfl (Nat.le_of_ble_eq_true rfl) dX0_init_33 (fun H locs Z => ?_)
  have Z : ec_Z D G A s ((h, .inr (0, [.ref q0, .ref q1, .ref q2, .ref q3, .null, .null, .null, .null, .int (nI 0), .int (nI 0), .null])) :: [(q0, ec_ar G.1 (fun _ => 0)), (q1, ec_ar G.1 (fun _ => 0)), (q2, ec_ar G.1 (fun _ => 0)), (q3, ec_ar G.1 (fun _ => 0))]) H locs := Z
  refine lv_aload_n F.1 F.2.1 dX0_init_36 rfl (lv_at hl 0 rfl) ?_
  refine lv_bipush (v := nI 12) F.1 F.2.1 dX0_init_37 (by decide) ?_
  refine ec_newb F Z hA (Nat.le_of_ble_eq_true rfl) (Nat.le_of_ble_eq_true rfl) dX0_init_39 (fun q4 H Z => ?_)
  have Z : ec_Z D G A s ((h, .inr (0, [.ref q0, .ref q1, .ref q2, .ref q3, .null, .null, .null, .null, .int (nI 0), .int (nI 0), .null])) :: [(q0, ec_ar G.1 (fun _ => 0)), (q1, ec_ar G.1 (fun _ => 0)), (q2, ec_ar G.1 (fun _ => 0)), (q3, ec_ar G.1 (fun _ => 0)), (q4, ec_ar G.1 (fun _ => 0))]) H locs := Z
  refine ex_ini (k := 4) (ty := .array .byte) F hin Z (by decide) rfl rfl q37 (by decide +kernel) rfl rfl (Nat.le_of_ble_eq_true rfl) dX0_init_41 (fun H locs Z => ?_)
  have Z : ec_Z D G A s ((h, .inr (0, [.ref q0, .ref q1, .ref q2, .ref q3, .ref q4, .null, .null, .null, .int (nI 0), .int (nI 0), .null])) :: [(q0, ec_ar G.1 (fun _ => 0)), (q1, ec_ar G.1 (fun _ => 0)), (q2, ec_ar G.1 (fun _ => 0)), (q3, ec_ar G.1 (fun _ => 0)), (q4, ec_ar G.1 (fun _ => 0))]) H locs := Z
  refine lv_aload_n F.1 F.2.1 dX0_init_44 rfl (lv_at hl 0 rfl) ?_
  refine lv_bipush (v := nI 12) F.1 F.2.1 dX0_init_45 (by decide) ?_
  refine ec_newb F Z hA (Nat.le_of_ble_eq_true rfl) (Nat.le_of_ble_eq_true rfl) dX0_init_47 (fun q5 H Z => ?_)
  have Z : ec_Z D G A s ((h, .inr (0, [.ref q0, .ref q1, .ref q2, .ref q3, .ref q4, .null, .null, .null, .int (nI 0), .int (nI 0), .null])) :: [(q0, ec_ar G.1 (fun _ => 0)), (q1, ec_ar G.1 (fun _ => 0)), (q2, ec_ar G.1 (fun _ => 0)), (q3, ec_ar G.1 (fun _ => 0)), (q4, ec_ar G.1 (fun _ => 0)), (q5, ec_ar G.1 (fun _ => 0))]) H locs := Z
  refine ex_ini (k := 5) (ty := .array .byte) F hin Z (by decide) rfl rfl q38 (by decide +kernel) rfl rfl (Nat.le_of_ble_eq_true rfl) dX0_init_49 (fun H locs Z => ?_)
  have Z : ec_Z D G A s ((h, .inr (0, [.ref q0, .ref q1, .ref q2, .ref q3, .ref q4, .ref q5, .null, .null, .int (nI 0), .int (nI 0), .null])) :: [(q0, ec_ar G.1 (fun _ => 0)), (q1, ec_ar G.1 (fun _ => 0)), (q2, ec_ar G.1 (fun _ => 0)), (q3, ec_ar G.1 (fun _ => 0)), (q4, ec_ar G.1 (fun _ => 0)), (q5, ec_ar G.1 (fun _ => 0))]) H locs := Z
  refine lv_aload_n F.1 F.2.1 dX0_init_52 rfl (lv_at hl 0 rfl) ?_
  refine lv_bipush (v := nI 12) F.1 F.2.1 dX0_init_53 (by decide) ?_
  refine ec_newi F Z hA (Nat.le_of_ble_eq_true rfl) (Nat.le_of_ble_eq_true rfl) dX0_init_55 (fun q6 H Z => ?_)
  have Z : ec_Z D G A s ((h, .inr (0, [.ref q0, .ref q1, .ref q2, .ref q3, .ref q4, .ref q5, .null, .null, .int (nI 0), .int (nI 0), .null])) :: [(q0, ec_ar G.1 (fun _ => 0)), (q1, ec_ar G.1 (fun _ => 0)), (q2, ec_ar G.1 (fun _ => 0)), (q3, ec_ar G.1 (fun _ => 0)), (q4, ec_ar G.1 (fun _ => 0)), (q5, ec_ar G.1 (fun _ => 0)), (q6, ec_ar G.2 (fun _ => 0))]) H locs := Z
  refine ex_ini (k := 6) (ty := .array .int) F hin Z (by decide) rfl rfl q39 (by decide +kernel) rfl rfl (Nat.le_of_ble_eq_true rfl) dX0_init_57 (fun H locs Z => ?_)
  have Z : ec_Z D G A s ((h, .inr (0, [.ref q0, .ref q1, .ref q2, .ref q3, .ref q4, .ref q5, .ref q6, .null, .int (nI 0), .int (nI 0), .null])) :: [(q0, ec_ar G.1 (fun _ => 0)), (q1, ec_ar G.1 (fun _ => 0)), (q2, ec_ar G.1 (fun _ => 0)), (q3, ec_ar G.1 (fun _ => 0)), (q4, ec_ar G.1 (fun _ => 0)), (q5, ec_ar G.1 (fun _ => 0)), (q6, ec_ar G.2 (fun _ => 0))]) H locs := Z
  refine lv_aload_n F.1 F.2.1 dX0_init_60 rfl (lv_at hl 0 rfl) ?_
  refine lv_bipush (v := nI 12) F.1 F.2.1 dX0_init_61 (by decide) ?_
  refine ec_newb F Z hA (Nat.le_of_ble_eq_true rfl) (Nat.le_of_ble_eq_true rfl) dX0_init_63 (fun q7 H Z => ?_)
  have Z : ec_Z D G A s ((h, .inr (0, [.ref q0, .ref q1, .ref q2, .ref q3, .ref q4, .ref q5, .ref q6, .null, .int (nI 0), .int (nI 0), .null])) :: [(q0, ec_ar G.1 (fun _ => 0)), (q1, ec_ar G.1 (fun _ => 0)), (q2, ec_ar G.1 (fun _ => 0)), (q3, ec_ar G.1 (fun _ => 0)), (q4, ec_ar G.1 (fun _ => 0)), (q5, ec_ar G.1 (fun _ => 0)), (q6, ec_ar G.2 (fun _ => 0)), (q7, ec_ar G.1 (fun _ => 0))]) H locs := Z
  refine ex_ini (k := 7) (ty := .array .byte) F hin Z (by decide) rfl rfl q40 (by decide +kernel) rfl rfl (Nat.le_of_ble_eq_true rfl) dX0_init_65 (fun H locs Z => ?_)
  have Z : ec_Z D G A s ((h, .inr (0, [.ref q0, .ref q1, .ref q2, .ref q3, .ref q4, .ref q5, .ref q6, .ref q7, .int (nI 0), .int (nI 0), .null])) :: [(q0, ec_ar G.1 (fun _ => 0)), (q1, ec_ar G.1 (fun _ => 0)), (q2, ec_ar G.1 (fun _ => 0)), (q3, ec_ar G.1 (fun _ => 0)), (q4, ec_ar G.1 (fun _ => 0)), (q5, ec_ar G.1 (fun _ => 0)), (q6, ec_ar G.2 (fun _ => 0)), (q7, ec_ar G.1 (fun _ => 0))]) H locs := Z
  refine lv_aload_n F.1 F.2.1 dX0_init_68 rfl (lv_at hl 0 rfl) ?_
  refine lv_bipush (v := nI 12) F.1 F.2.1 dX0_init_69 (by decide) ?_
  refine ec_newb F Z hA (Nat.le_of_ble_eq_true rfl) (Nat.le_of_ble_eq_true rfl) dX0_init_71 (fun q8 H Z => ?_)
  have Z : ec_Z D G A s ((h, .inr (0, [.ref q0, .ref q1, .ref q2, .ref q3, .ref q4, .ref q5, .ref q6, .ref q7, .int (nI 0), .int (nI 0), .null])) :: [(q0, ec_ar G.1 (fun _ => 0)), (q1, ec_ar G.1 (fun _ => 0)), (q2, ec_ar G.1 (fun _ => 0)), (q3, ec_ar G.1 (fun _ => 0)), (q4, ec_ar G.1 (fun _ => 0)), (q5, ec_ar G.1 (fun _ => 0)), (q6, ec_ar G.2 (fun _ => 0)), (q7, ec_ar G.1 (fun _ => 0)), (q8, ec_ar G.1 (fun _ => 0))]) H locs := Z
  refine ex_ini (k := 10) (ty := .array .byte) F hin Z (by decide) rfl rfl q43 (by decide +kernel) rfl rfl (Nat.le_of_ble_eq_true rfl) dX0_init_73 (fun H locs Z => ?_)
  have Z : ec_Z D G A s ((h, .inr (0, [.ref q0, .ref q1, .ref q2, .ref q3, .ref q4, .ref q5, .ref q6, .ref q7, .int (nI 0), .int (nI 0), .ref q8])) :: [(q0, ec_ar G.1 (fun _ => 0)), (q1, ec_ar G.1 (fun _ => 0)), (q2, ec_ar G.1 (fun _ => 0)), (q3, ec_ar G.1 (fun _ => 0)), (q4, ec_ar G.1 (fun _ => 0)), (q5, ec_ar G.1 (fun _ => 0)), (q6, ec_ar G.2 (fun _ => 0)), (q7, ec_ar G.1 (fun _ => 0)), (q8, ec_ar G.1 (fun _ => 0))]) H locs := Z
  refine W.widen (k := 9) (n := 108) (Nat.le_of_ble_eq_true rfl) (Nat.le_of_ble_eq_true rfl) ?_
  have Z : ec_Z D G A s (XW G h (fun i => ([q0, q1, q2, q3, q4, q5, q6, q7, q8] : List Nat).getD i 0) x_0) H locs := Z
  exact W.vret F.1 F.2.1 hr (fun _ ht hW => ⟨⟨(fun i => ([q0, q1, q2, q3, q4, q5, q6, q7, q8] : List Nat).getD i 0), rfl, trivial, by rw [ht]; exact Z.2.1, va_K.moved hW.alike Z.1, Z.2.2.1⟩, Z.2.2.2.F ht⟩) Z.2.2.2.2.2 dX0_init_76
set_option maxHeartbeats 4000000 in
/-- EventCircuitModel(): every array is new, all zero -/
theorem m_init_m (l : Launch) (D : va_G) (G : ec_G) (h : Nat) (sz : Nat) : Met l yX1_init (ws_ yX1_init cX1_init 1 none) { frames := 1, cells := 8, slots := 96, locals := 30 } (va_Pc [.ref h] (ec_Pre D G [(h, .inr (1, M_fs0))] sz)) (va_Qv (fun _ : Nat → Nat => True) (ec_Pst D G (va_A [(h, .inr (1, M_fs0))] sz) (fun ad => MW G h ad m_0)) (va_A [(h, .inr (1, M_fs0))] sz)) 8 96 (va_A [(h, .inr (1, M_fs0))] sz) := by
  refine Met.ofW (cc := cX1_init) (maxL := 1) (ret := none) (by decide) rfl ?_
  intro p e s m args below meth c s₁ B hml hv
  obtain ⟨rfl, hsz, hP, hK, hD0⟩ := hv
  have hts := atoms_spec (ws := ws_ yX1_init cX1_init 1 none) B.pre
  have hts : ∀ w ∈ lw_all, w.before _ s = true := fun w h => hts w (List.mem_cons_of_mem _ h)
  have hown : s.vm.findClass RX1 = some m.cls := findClass_of_methodNamed B.named
  have hlocks := B.notSynchronized
  have hr := B.returns
  subst hsz
  have F : CallFix p m c cX1_init 1 s _ lw_all RX1 := ⟨B.exec, B.bytes, hml, hown, hts⟩
  have hD := hD0.self (sz := s.heap.size)
  generalize hAe : va_A [(h, .inr (1, M_fs0))] s.heap.size = A at hD ⊢
  have hA : ∀ q : Nat, s.heap.size ≤ q → A q := fun q h => by rw [← hAe]; exact Or.inr h
  have Z : ec_Z D G A s [(h, .inr (1, M_fs0))] s.heap [] := ⟨hK, hP, hD, va_S.rf⟩
  have hl := lv_entry ([.ref h]) (n := 1) (Nat.le_of_ble_eq_true rfl)
  rw [lg_entry_eq]
  generalize (lg_sl ([.ref h]) ++ List.replicate (1 - (lg_sl ([.ref h])).length) Slot.unset).toArray = ls at hl ⊢
  have hl : lv_has ls 1 [(0, .ref h)] := hl
  refine lv_aload_n F.1 F.2.1 dX1_init_0 rfl (lv_at hl 0 rfl) ?_
  refine W.objInit F.1 F.2.1 F.2.2.2.1 (F.2.2.2.2 _ q162) (F.2.2.2.2 _ q31) (F.2.2.2.2 _ q32) rfl (by rw [hml]; exact hl.1) rfl dX1_init_1 (Nat.le_of_ble_eq_true rfl) (Nat.le_of_ble_eq_true rfl) ?_
  refine W.eq (g2 := F0 m 4 ls []) rfl ?_
  refine lv_aload_n F.1 F.2.1 dX1_init_4 rfl (lv_at hl 0 rfl) ?_
  refine lv_bipush (v := nI 12) F.1 F.2.1 dX1_init_5 (by decide) ?_
  refine ec_newi F Z hA (Nat.le_of_ble_eq_true rfl) (Nat.le_of_ble_eq_true rfl) dX1_init_7 (fun q0 H Z => ?_)
  have Z : ec_Z D G A s ((h, .inr (1, [.null, .null, .null, .null, .null, .null, .null, .null])) :: [(q0, ec_ar G.2 (fun _ => 0))]) H [] := Z
  refine em_ini (k := 0) (ty := .array .int) F Z (by decide) rfl rfl q163 (by decide +kernel) rfl rfl (Nat.le_of_ble_eq_true rfl) dX1_init_9 (fun H locs Z => ?_)
  have Z : ec_Z D G A s ((h, .inr (1, [.ref q0, .null, .null, .null, .null, .null, .null, .null])) :: [(q0, ec_ar G.2 (fun _ => 0))]) H locs := Z
  refine lv_aload_n F.1 F.2.1 dX1_init_12 rfl (lv_at hl 0 rfl) ?_
  refine lv_bipush (v := nI 12) F.1 F.2.1 dX1_init_13 (by decide) ?_
  refine ec_newi F Z hA (Nat.le_of_ble_eq_true rfl) (Nat.le_of_ble_eq_true rfl) dX1_init_15 (fun q1 H Z => ?_)
  have Z : ec_Z D G A s ((h, .inr (1, [.ref q0, .null, .null, .null, .null, .null, .null, .null])) :: [(q0, ec_ar G.2 (fun _ => 0)), (q1, ec_ar G.2 (fun _ => 0))]) H locs := Z
  refine em_ini (k := 1) (ty := .array .int) F Z (by decide) rfl rfl q164 (by decide +kernel) rfl rfl (Nat.le_of_ble_eq_true rfl) dX1_init_17 (fun H locs Z => ?_)
  have Z : ec_Z D G A s ((h, .inr (1, [.ref q0, .ref q1, .null, .null, .null, .null, .null, .null])) :: [(q0, ec_ar G.2 (fun _ => 0)), (q1, ec_ar G.2 (fun _ => 0))]) H locs := Z
  refine lv_aload_n F.1 F.2.1 dX1_init_20 rfl (lv_at hl 0 rfl) ?_
  refine lv_bipush (v := nI 12) F.1 F.2.1 dX1_init_21 (by decide) ?_
  refine ec_newi F Z hA (Nat.le_of_ble_eq_true rfl) (Nat.le_of_ble_eq_true rfl) dX1_init_23 (fun q2 H Z => ?_)
  have Z : ec_Z D G A s ((h, .inr (1, [.ref q0, .ref q1, .null, .null, .null, .null, .null, .null])) :: [(q0, ec_ar G.2 (fun _ => 0)), (q1, ec_ar G.2 (fun _ => 0)), (q2, ec_ar G.2 (fun _ => 0))]) H locs := Z
  refine em_ini (k := 2) (ty := .array .int) F Z (by decide) rfl rfl q165 (by decide +kernel) rfl rfl (Nat.le_of_ble_eq_true rfl) dX1_init_25 (fun H locs Z => ?_)
  have Z : ec_Z D G A s ((h, .inr (1, [.ref q0, .ref q1, .ref q2, .null, .null, .null, .null, .null])) :: [(q0, ec_ar G.2 (fun _ => 0)), (q1, ec_ar G.2 (fun _ => 0)), (q2, ec_ar G.2 (fun _ => 0))]) H locs := Z
  refine lv_aload_n F.1 F.2.1 dX1_init_28 rfl (lv_at hl 0 rfl) ?_
  refine lv_bipush (v := nI 12) F.1 F.2.1 dX1_init_29 (by decide) ?_
  refine ec_newi F Z hA (Nat.le_of_ble_eq_true rfl) (Nat.le_of_ble_eq_true rfl) dX1_init_31 (fun q3 H Z => ?_)
  have Z : ec_Z D G A s ((h, .inr (1, [.ref q0, .ref q1, .ref q2, .null, .null, .null, .null, .null])) :: [(q0, ec_ar G.2 (fun _ => 0)), (q1, ec_ar G.2 (fun _ => 0)), (q2, ec_ar G.2 (fun _ => 0)), (q3, ec_ar G.2 (fun _ => 0))]) H locs := Z
  refine em_ini (k := 3) (ty := .array .int) F Z (by decide) rfl rfl q166 (by decide +kernel) rfl rfl (Nat.le_of_ble_eq_true rfl) dX1_init_33 (fun H locs Z => ?_)
  have Z : ec_Z D G A s ((h, .inr (1, [.ref q0, .ref q1, .ref q2, .ref q3, .null, .null, .null, .null])) :: [(q0, ec_ar G.2 (fun _ => 0)), (q1, ec_ar G.2 (fun _ => 0)), (q2, ec_ar G.2 (fun _ => 0)), (q3, ec_ar G.2 (fun _ => 0))]) H locs := Z
  refine lv_aload_n F.1 F.2.1 dX1_init_36 rfl (lv_at hl 0 rfl) ?_
  refine lv_bipush (v := nI 12) F.1 F.2.1 dX1_init_37 (by decide) ?_
  refine ec_newi F Z hA (Nat.le_of_ble_eq_true rfl) (Nat.le_of_ble_eq_true rfl) dX1_init_39 (fun q4 H Z => ?_)
  have Z : ec_Z D G A s ((h, .inr (1, [.ref q0, .ref q1, .ref q2, .ref q3, .null, .null, .null, .null])) :: [(q0, ec_ar G.2 (fun _ => 0)), (q1, ec_ar G.2 (fun _ => 0)), (q2, ec_ar G.2 (fun _ => 0)), (q3, ec_ar G.2 (fun _ => 0)), (q4, ec_ar G.2 (fun _ => 0))]) H locs := Z
  refine em_ini (k := 4) (ty := .array .int) F Z (by decide) rfl rfl q167 (by decide +kernel) rfl rfl (Nat.le_of_ble_eq_true rfl) dX1_init_41 (fun H locs Z => ?_)
  have Z : ec_Z D G A s ((h, .inr (1, [.ref q0, .ref q1, .ref q2, .ref q3, .ref q4, .null, .null, .null])) :: [(q0, ec_ar G.2 (fun _ => 0)), (q1, ec_ar G.2 (fun _ => 0)), (q2, ec_ar G.2 (fun _ => 0)), (q3, ec_ar G.2 (fun _ => 0)), (q4, ec_ar G.2 (fun _ => 0))]) H locs := Z
  refine lv_aload_n F.1 F.2.1 dX1_init_44 rfl (lv_at hl 0 rfl) ?_
  refine lv_bipush (v := nI 12) F.1 F.2.1 dX1_init_45 (by decide) ?_
  refine ec_newi F Z hA (Nat.le_of_ble_eq_true rfl) (Nat.le_of_ble_eq_true rfl) dX1_init_47 (fun q5 H Z => ?_)
  have Z : ec_Z D G A s ((h, .inr (1, [.ref q0, .ref q1, .ref q2, .ref q3, .ref q4, .null, .null, .null])) :: [(q0, ec_ar G.2 (fun _ => 0)), (q1, ec_ar G.2 (fun _ => 0)), (q2, ec_ar G.2 (fun _ => 0)), (q3, ec_ar G.2 (fun _ => 0)), (q4, ec_ar G.2 (fun _ => 0)), (q5, ec_ar G.2 (fun _ => 0))]) H locs := Z
  refine em_ini (k := 5) (ty := .array .int) F Z (by decide) rfl rfl q168 (by decide +kernel) rfl rfl (Nat.le_of_ble_eq_true rfl) dX1_init_49 (fun H locs Z => ?_)
  have Z : ec_Z D G A s ((h, .inr (1, [.ref q0, .ref q1, .ref q2, .ref q3, .ref q4, .ref q5, .null, .null])) :: [(q0, ec_ar G.2 (fun _ => 0)), (q1, ec_ar G.2 (fun _ => 0)), (q2, ec_ar G.2 (fun _ => 0)), (q3, ec_ar G.2 (fun _ => 0)), (q4, ec_ar G.2 (fun _ => 0)), (q5, ec_ar G.2 (fun _ => 0))]) H locs := Z
  refine lv_aload_n F.1 F.2.1 dX1_init_52 rfl (lv_at hl 0 rfl) ?_
  refine lv_bipush (v := nI 12) F.1 F.2.1 dX1_init_53 (by decide) ?_
  refine ec_newi F Z hA (Nat.le_of_ble_eq_true rfl) (Nat.le_of_ble_eq_true rfl) dX1_init_55 (fun q6 H Z => ?_)
  have Z : ec_Z D G A s ((h, .inr (1, [.ref q0, .ref q1, .ref q2, .ref q3, .ref q4, .ref q5, .null, .null])) :: [(q0, ec_ar G.2 (fun _ => 0)), (q1, ec_ar G.2 (fun _ => 0)), (q2, ec_ar G.2 (fun _ => 0)), (q3, ec_ar G.2 (fun _ => 0)), (q4, ec_ar G.2 (fun _ => 0)), (q5, ec_ar G.2 (fun _ => 0)), (q6, ec_ar G.2 (fun _ => 0))]) H locs := Z
  refine em_ini (k := 6) (ty := .array .int) F Z (by decide) rfl rfl q169 (by decide +kernel) rfl rfl (Nat.le_of_ble_eq_true rfl) dX1_init_57 (fun H locs Z => ?_)
  have Z : ec_Z D G A s ((h, .inr (1, [.ref q0, .ref q1, .ref q2, .ref q3, .ref q4, .ref q5, .ref q6, .null])) :: [(q0, ec_ar G.2 (fun _ => 0)), (q1, ec_ar G.2 (fun _ => 0)), (q2, ec_ar G.2 (fun _ => 0)), (q3, ec_ar G.2 (fun _ => 0)), (q4, ec_ar G.2 (fun _ => 0)), (q5, ec_ar G.2 (fun _ => 0)), (q6, ec_ar G.2 (fun _ => 0))]) H locs := Z
  refine lv_aload_n F.1 F.2.1 dX1_init_60 rfl (lv_at hl 0 rfl) ?_
  refine lv_bipush (v := nI 12) F.1 F.2.1 dX1_init_61 (by decide) ?_
  refine ec_newi F Z hA (Nat.le_of_ble_eq_true rfl) (Nat.le_of_ble_eq_true rfl) dX1_init_63 (fun q7 H Z => ?_)
  have Z : ec_Z D G A s ((h, .inr (1, [.ref q0, .ref q1, .ref q2, .ref q3, .ref q4, .ref q5, .ref q6, .null])) :: [(q0, ec_ar G.2 (fun _ => 0)), (q1, ec_ar G.2 (fun _ => 0)), (q2, ec_ar G.2 (fun _ => 0)), (q3, ec_ar G.2 (fun _ => 0)), (q4, ec_ar G.2 (fun _ => 0)), (q5, ec_ar G.2 (fun _ => 0)), (q6, ec_ar G.2 (fun _ => 0)), (q7, ec_ar G.2 (fun _ => 0))]) H locs := Z
  refine em_ini (k := 7) (ty := .array .int) F Z (by decide) rfl rfl q170 (by decide +kernel) rfl rfl (Nat.le_of_ble_eq_true rfl) dX1_init_65 (fun H locs Z => ?_)
  have Z : ec_Z D G A s ((h, .inr (1, [.ref q0, .ref q1, .ref q2, .ref q3, .ref q4, .ref q5, .ref q6, .ref q7])) :: [(q0, ec_ar G.2 (fun _ => 0)), (q1, ec_ar G.2 (fun _ => 0)), (q2, ec_ar G.2 (fun _ => 0)), (q3, ec_ar G.2 (fun _ => 0)), (q4, ec_ar G.2 (fun _ => 0)), (q5, ec_ar G.2 (fun _ => 0)), (q6, ec_ar G.2 (fun _ => 0)), (q7, ec_ar G.2 (fun _ => 0))]) H locs := Z
  refine W.widen (k := 8) (n := 96) (Nat.le_of_ble_eq_true rfl) (Nat.le_of_ble_eq_true rfl) ?_
  have Z : ec_Z D G A s (MW G h (fun i => ([q0, q1, q2, q3, q4, q5, q6, q7] : List Nat).getD i 0) m_0) H locs := Z
  exact W.vret F.1 F.2.1 hr (fun _ ht hW => ⟨⟨(fun i => ([q0, q1, q2, q3, q4, q5, q6, q7] : List Nat).getD i 0), rfl, trivial, by rw [ht]; exact Z.2.1, va_K.moved hW.alike Z.1, Z.2.2.1⟩, Z.2.2.2.F ht⟩) Z.2.2.2.2.2 dX1_init_68
end
section
/-! counts, ranks, rounds: no program in sight -/
def ec_cnt (p : Nat → Bool) : Nat → Nat
  | 0 => 0
  | n + 1 => ec_cnt p n + (p n).toNat
theorem ec_cnt_s (p : Nat → Bool) (n : Nat) : ec_cnt p (n + 1) = ec_cnt p n + (p n).toNat := rfl
theorem ec_toNat_le (b : Bool) : b.toNat ≤ 1 := by cases b <;> decide
theorem ec_cnt_le (p : Nat → Bool) (n : Nat) : ec_cnt p n ≤ n := by
  induction n with
  | zero => exact Nat.le_refl 0
  | succ n ih =>
    have := ec_toNat_le (p n)
    rw [ec_cnt_s]
    omega
theorem ec_cnt_lt_n {p : Nat → Bool} {n k : Nat} (hk : k < n) (h : p k = false) : ec_cnt p n < n := by
  induction n with
  | zero => exact absurd hk (Nat.not_lt_zero k)
  | succ n ih =>
    rw [ec_cnt_s]
    by_cases e : k = n
    · subst e
      have := ec_cnt_le p k
      rw [h]
      show ec_cnt p k + 0 < k + 1
      omega
    · have := ih (by omega)
      have := ec_toNat_le (p n)
      omega
theorem ec_cnt_full {p : Nat → Bool} {n : Nat} (h : ec_cnt p n = n) : ∀ i, i < n → p i = true := by
  intro i hi
  cases e : p i with
  | true => rfl
  | false =>
    have := ec_cnt_lt_n hi e
    omega
theorem ec_cnt_mono {p q : Nat → Bool} {n : Nat} (h : ∀ i, i < n → p i = true → q i = true) : ec_cnt p n ≤ ec_cnt q n := by
  induction n with
  | zero => exact Nat.le_refl 0
  | succ n ih =>
    have h1 := ih (fun i hi => h i (by omega))
    have h2 : (p n).toNat ≤ (q n).toNat := by
      cases e : p n with
      | false => exact Nat.zero_le _
      | true => rw [h n (by omega) e]; exact Nat.le_refl _
    rw [ec_cnt_s, ec_cnt_s]
    omega
theorem ec_cnt_lt {p q : Nat → Bool} {n k : Nat} (h : ∀ i, i < n → p i = true → q i = true) (hk : k < n) (h1 : p k = false) (h2 : q k = true) : ec_cnt p n < ec_cnt q n := by
  induction n with
  | zero => exact absurd hk (Nat.not_lt_zero k)
  | succ n ih =>
    have hm : ec_cnt p n ≤ ec_cnt q n := ec_cnt_mono (fun i hi => h i (by omega))
    rw [ec_cnt_s, ec_cnt_s]
    by_cases e : k = n
    · subst e
      rw [h1, h2]
      show ec_cnt p k + 0 < ec_cnt q k + 1
      omega
    · have h3 := ih (fun i hi => h i (by omega)) (by omega)
      have h4 : (p n).toNat ≤ (q n).toNat := by
        cases e2 : p n with
        | false => exact Nat.zero_le _
        | true => rw [h n (by omega) e2]; exact Nat.le_refl _
      omega
theorem ec_cnt_congr {p q : Nat → Bool} {n : Nat} (h : ∀ i, i < n → p i = q i) : ec_cnt p n = ec_cnt q n := by
  induction n with
  | zero => rfl
  | succ n ih => rw [ec_cnt_s, ec_cnt_s, ih (fun i hi => h i (by omega)), h n (by omega)]
theorem ec_cnt_one {p q : Nat → Bool} {n k : Nat} (h : ∀ i, i < n → i ≠ k → p i = q i) (hk : k < n) (h1 : p k = false) (h2 : q k = true) : ec_cnt q n = ec_cnt p n + 1 := by
  induction n with
  | zero => exact absurd hk (Nat.not_lt_zero k)
  | succ n ih =>
    rw [ec_cnt_s, ec_cnt_s]
    by_cases e : k = n
    · subst e
      rw [h1, h2, ec_cnt_congr (p := p) (q := q) (fun i hi => h i (by omega) (by omega))]
      show ec_cnt q k + 1 = ec_cnt q k + 0 + 1
      omega
    · rw [ih (fun i hi => h i (by omega)) (by omega), h n (by omega) (fun z => e z.symm)]
      omega
theorem ec_cnt_add {p q r : Nat → Bool} {n : Nat} (h : ∀ i, i < n → (r i).toNat = (p i).toNat + (q i).toNat) : ec_cnt r n = ec_cnt p n + ec_cnt q n := by
  induction n with
  | zero => rfl
  | succ n ih =>
    have h1 := ih (fun i hi => h i (by omega))
    have h2 := h n (by omega)
    rw [ec_cnt_s, ec_cnt_s, ec_cnt_s]
    omega
theorem ec_cnt_0 {p : Nat → Bool} {n : Nat} (h : ∀ i, i < n → p i = false) : ec_cnt p n = 0 := by
  induction n with
  | zero => rfl
  | succ n ih => rw [ec_cnt_s, ih (fun i hi => h i (by omega)), h n (by omega)]; rfl
theorem ec_rank {so sa sb rk : ec_A} (ha : ∀ i, i < 12 → sa i < 12) (hb : ∀ i, i < 12 → sb i < 12) (h : ∀ w, w < 12 → so w = 1 → rk (sa w) < rk w ∧ rk (sb w) < rk w) : ∃ rk', ec_Ac so sa sb rk' := by
  refine ⟨fun v => ec_cnt (fun u => decide (rk u < rk v)) 12, ?_, ?_⟩
  · intro w hw
    exact ec_cnt_lt_n hw (by simp)
  · intro w hw hs
    obtain ⟨h1, h2⟩ := h w hw hs
    constructor
    · refine ec_cnt_lt (k := sa w) ?_ (ha w hw) (by simp) (by simpa using h1)
      intro i _ hi
      have hi : rk i < rk (sa w) := by simpa using hi
      have : rk i < rk w := by omega
      simpa using this
    · refine ec_cnt_lt (k := sb w) ?_ (hb w hw) (by simp) (by simpa using h2)
      intro i _ hi
      have hi : rk i < rk (sb w) := by simpa using hi
      have : rk i < rk w := by omega
      simpa using this
section EcRound
variable {so sa sb rk : ec_A} {F : Nat → Nat → Nat → Nat}
theorem ec_rd_step (hac : ec_Ac so sa sb rk) (ha : ∀ i, i < 12 → sa i < 12) (hb : ∀ i, i < 12 → sb i < 12) (k : Nat) (v : ec_A)
    (hT : ∀ w, w < 12 → so w = 1 → rk w < k → v w = F w (v (sa w)) (v (sb w))) :
    (∀ w, w < 12 → so w = 1 → rk w < k + 1 → ec_rd so sa sb F v w = F w (ec_rd so sa sb F v (sa w)) (ec_rd so sa sb F v (sb w))) ∧ (∀ w, so w ≠ 1 → ec_rd so sa sb F v w = v w) := by
  have key := ec_lp_inv (ec_st so sa sb F) (fun i v' => (∀ w, w < 12 → (so w ≠ 1 ∨ rk w < k) → v' w = v w) ∧ (∀ w, w < i → so w = 1 → rk w ≤ k → v' w = F w (v' (sa w)) (v' (sb w))) ∧ (∀ w, so w ≠ 1 → v' w = v w)) 12 ?_ 12 0 v (by omega) ⟨fun _ _ _ => rfl, fun w h => absurd h (Nat.not_lt_zero w), fun _ _ => rfl⟩
  · refine ⟨fun w hw hs hr => key.2.1 w hw hs (by omega), key.2.2⟩
  · intro i v' hi ⟨h1, h2, h3⟩
    unfold ec_st
    by_cases hs : so i = 1
    · rw [if_pos hs]
      have hri := hac.2 i hi hs
      have g1 : ∀ w, w < 12 → (so w ≠ 1 ∨ rk w < k) → ec_up v' i (F i (v' (sa i)) (v' (sb i))) w = v w := by
        intro w hw hc
        by_cases e : w = i
        · subst e
          rw [ec_up_s]
          have hk : rk w < k := by
            rcases hc with hc | hc
            · exact absurd hs hc
            · exact hc
          rw [h1 (sa w) (ha w hw) (Or.inr (by omega)), h1 (sb w) (hb w hw) (Or.inr (by omega))]
          exact (hT w hw hs hk).symm
        · rw [ec_up_n e]
          exact h1 w hw hc
      have g0 : ∀ u, u < 12 → rk u < k → ec_up v' i (F i (v' (sa i)) (v' (sb i))) u = v' u := fun u hu hk => by
        rw [g1 u hu (Or.inr hk), h1 u hu (Or.inr hk)]
      refine ⟨g1, ?_, ?_⟩
      · intro w hw hsw hrw
        have hw12 : w < 12 := by omega
        have hr2 := hac.2 w hw12 hsw
        rw [g0 (sa w) (ha w hw12) (by omega), g0 (sb w) (hb w hw12) (by omega)]
        by_cases e : w = i
        · subst e
          rw [ec_up_s]
        · rw [ec_up_n e]
          exact h2 w (by omega) hsw hrw
      · intro w hsw
        have e : w ≠ i := fun e => hsw (by rw [e]; exact hs)
        rw [ec_up_n e]
        exact h3 w hsw
    · rw [if_neg hs]
      refine ⟨h1, ?_, h3⟩
      intro w hw hsw hrw
      have e : w ≠ i := fun e => hs (by rw [← e]; exact hsw)
      exact h2 w (by omega) hsw hrw
theorem ec_rds_fix (hac : ec_Ac so sa sb rk) (ha : ∀ i, i < 12 → sa i < 12) (hb : ∀ i, i < 12 → sb i < 12) (v : ec_A) :
    (∀ w, w < 12 → so w = 1 → ec_rds so sa sb F v w = F w (ec_rds so sa sb F v (sa w)) (ec_rds so sa sb F v (sb w))) ∧ (∀ w, so w ≠ 1 → ec_rds so sa sb F v w = v w) := by
  have key := ec_lp_inv (fun _ v => ec_rd so sa sb F v) (fun k v' => (∀ w, w < 12 → so w = 1 → rk w < k → v' w = F w (v' (sa w)) (v' (sb w))) ∧ (∀ w, so w ≠ 1 → v' w = v w)) 12 ?_ 12 0 v (by omega) ⟨fun w _ _ h => absurd h (Nat.not_lt_zero _), fun _ _ => rfl⟩
  · exact ⟨fun w hw hs => key.1 w hw hs (hac.1 w hw), key.2⟩
  · intro k v' _ ⟨h1, h2⟩
    obtain ⟨g1, g2⟩ := ec_rd_step (F := F) hac ha hb k v' h1
    exact ⟨g1, fun w hs => by rw [g2 w hs]; exact h2 w hs⟩
theorem ec_uniq (hac : ec_Ac so sa sb rk) (ha : ∀ i, i < 12 → sa i < 12) (hb : ∀ i, i < 12 → sb i < 12) {v v' : ec_A}
    (h1 : ∀ w, w < 12 → so w = 1 → v w = F w (v (sa w)) (v (sb w))) (h2 : ∀ w, w < 12 → so w = 1 → v' w = F w (v' (sa w)) (v' (sb w)))
    (h3 : ∀ w, w < 12 → so w ≠ 1 → v w = v' w) : ∀ w, w < 12 → v w = v' w := by
  have key : ∀ n w, w < 12 → rk w < n → v w = v' w := by
    intro n
    induction n with
    | zero => intro w _ h; exact absurd h (Nat.not_lt_zero _)
    | succ n ih =>
      intro w hw hr
      by_cases hs : so w = 1
      · have := hac.2 w hw hs
        rw [h1 w hw hs, h2 w hw hs, ih (sa w) (ha w hw) (by omega), ih (sb w) (hb w hw) (by omega)]
      · exact h3 w hw hs
  intro w hw
  exact key 12 w hw (hac.1 w hw)
end EcRound
end
section
/-! paths, hanging, circles -/
def ec_E (so sa sb : ec_A) (w u : Nat) : Prop := w < 12 ∧ so w = 1 ∧ (sa w = u ∨ sb w = u)
def ec_R (so sa sb : ec_A) : Nat → Nat → Nat → Prop
  | 0, w, t => ec_E so sa sb w t
  | n + 1, w, t => ∃ u, ec_E so sa sb w u ∧ ec_R so sa sb n u t
section EcPath
variable {so sa sb rk : ec_A}
theorem ec_R_lt {n w t : Nat} (h : ec_R so sa sb n w t) : w < 12 := by
  cases n with
  | zero => exact h.1
  | succ n => obtain ⟨u, h1, _⟩ := h; exact h1.1
theorem ec_E_to (ha : ∀ i, i < 12 → sa i < 12) (hb : ∀ i, i < 12 → sb i < 12) {w t : Nat} (h : ec_E so sa sb w t) : t < 12 := by
  obtain ⟨h1, _, h3⟩ := h
  rcases h3 with h3 | h3
  · rw [← h3]; exact ha w h1
  · rw [← h3]; exact hb w h1
theorem ec_R_to (ha : ∀ i, i < 12 → sa i < 12) (hb : ∀ i, i < 12 → sb i < 12) {n : Nat} : ∀ {w t : Nat}, ec_R so sa sb n w t → t < 12 := by
  induction n with
  | zero => intro w t h; exact ec_E_to ha hb h
  | succ n ih => intro w t h; obtain ⟨u, _, h2⟩ := h; exact ih h2
theorem ec_E_rk (hac : ec_Ac so sa sb rk) {w t : Nat} (h : ec_E so sa sb w t) : rk t < rk w := by
  obtain ⟨h1, h2, h3⟩ := h
  have := hac.2 w h1 h2
  rcases h3 with h3 | h3
  · rw [← h3]; exact this.1
  · rw [← h3]; exact this.2
theorem ec_R_rk (hac : ec_Ac so sa sb rk) {n : Nat} : ∀ {w t : Nat}, ec_R so sa sb n w t → rk t + n + 1 ≤ rk w := by
  induction n with
  | zero => intro w t h; have := ec_E_rk hac h; omega
  | succ n ih =>
    intro w t h
    obtain ⟨u, h1, h2⟩ := h
    have := ec_E_rk hac h1
    have := ih h2
    omega
theorem ec_R_n (hac : ec_Ac so sa sb rk) {n w t : Nat} (h : ec_R so sa sb n w t) : n ≤ 10 := by
  have := ec_R_rk hac h
  have := hac.1 w (ec_R_lt h)
  omega
theorem ec_R_tr {m : Nat} {u t : Nat} (h2 : ec_R so sa sb m u t) {n : Nat} : ∀ {w : Nat}, ec_R so sa sb n w u → ∃ j, ec_R so sa sb j w t := by
  induction n with
  | zero => intro w h; exact ⟨m + 1, u, h, h2⟩
  | succ n ih =>
    intro w h
    obtain ⟨x, h3, h4⟩ := h
    obtain ⟨j, h5⟩ := ih h4
    exact ⟨j + 1, x, h3, h5⟩
/-- the listeners name the wires -/
def ec_Li (so sa sb li : ec_A) : Prop := ∀ s, s < 12 → ∀ w, ((li s).testBit w = true ↔ ec_E so sa sb w s)
theorem ec_ha_mono {li : ec_A} {w s x : Nat} (h : s.testBit x = true) : (ec_ha li w s).testBit x = true := by
  unfold ec_ha
  split
  · rw [Nat.testBit_or, h]; rfl
  · exact h
theorem ec_hang_sound {li : ec_A} (hli : ec_Li so sa sb li) {k : Nat} (hk : k < 12) {w : Nat} (h : (x_hang li k).testBit w = true) : ∃ n, ec_R so sa sb n w k := by
  have key := ec_lp_inv (fun _ s => ec_lp (ec_ha li) 12 0 s) (fun _ s => ∀ w, s.testBit w = true → ∃ n, ec_R so sa sb n w k) 12 ?_ 12 0 (li k) (by omega) (fun w h => ⟨0, (hli k hk w).mp h⟩)
  · exact key w h
  · intro _ s _ hs
    refine ec_lp_inv (ec_ha li) (fun _ s => ∀ w, s.testBit w = true → ∃ n, ec_R so sa sb n w k) 12 ?_ 12 0 s (by omega) hs
    intro i s hi hs w hw
    unfold ec_ha at hw
    split at hw
    · rename_i hb
      rw [Nat.testBit_or] at hw
      cases hc : s.testBit w with
      | true => exact hs w hc
      | false =>
        rw [hc, Bool.false_or] at hw
        obtain ⟨n, hn⟩ := hs i hb
        exact ⟨n + 1, i, (hli i hi w).mp hw, hn⟩
    · exact hs w hw
theorem ec_hang_all {li : ec_A} (hli : ec_Li so sa sb li) {k : Nat} (hk : k < 12) {n w : Nat} (hn : n ≤ 12) (h : ec_R so sa sb n w k) : (x_hang li k).testBit w = true := by
  have key := ec_lp_inv (fun _ s => ec_lp (ec_ha li) 12 0 s) (fun j s => ∀ n, n ≤ j → ∀ w, ec_R so sa sb n w k → s.testBit w = true) 12 ?_ 12 0 (li k) (by omega) ?_
  · exact key n hn w h
  · intro j s _ hs
    have inner := ec_lp_inv (ec_ha li) (fun i s' => (∀ x, s.testBit x = true → s'.testBit x = true) ∧ (∀ u, u < i → s.testBit u = true → ∀ x, (li u).testBit x = true → s'.testBit x = true)) 12 ?_ 12 0 s (by omega) ⟨fun _ h => h, fun u h => absurd h (Nat.not_lt_zero u)⟩
    · intro n hn w hw
      cases n with
      | zero => exact inner.1 w (hs 0 (Nat.zero_le _) w hw)
      | succ n =>
        obtain ⟨u, h1, h2⟩ := hw
        have hu := ec_R_lt h2
        exact inner.2 u hu (hs n (by omega) u h2) w ((hli u hu w).mpr h1)
    · intro i s' hi ⟨g1, g2⟩
      refine ⟨fun x hx => ec_ha_mono (g1 x hx), ?_⟩
      intro u hu hsu x hx
      by_cases e : u = i
      · subst e
        unfold ec_ha
        rw [if_pos (g1 u hsu), Nat.testBit_or, hx, Bool.or_true]
      · exact ec_ha_mono (g2 u (by omega) hsu x hx)
  · intro n hn w hw
    have e : n = 0 := by omega
    subst e
    exact (hli k hk w).mpr hw
theorem ec_hang_iff {li : ec_A} (hac : ec_Ac so sa sb rk) (hli : ec_Li so sa sb li) {k : Nat} (hk : k < 12) (w : Nat) : (x_hang li k).testBit w = true ↔ ∃ n, ec_R so sa sb n w k := by
  constructor
  · exact ec_hang_sound hli hk
  · intro ⟨n, h⟩
    exact ec_hang_all hli hk (by have := ec_R_n hac h; omega) h
/-- findHanging -/
def ec_fi (kd a b on : ec_A) : ec_A := ec_lp (ec_f0 kd a b) 12 0 on
theorem ec_fi_iff {on : ec_A} {s : Nat} (hs : s < 12) (t : Nat) : (ec_fi so sa sb on s).testBit t = true ↔ ec_E so sa sb s t := by
  have key := ec_lp_inv (ec_f0 so sa sb) (fun i on => ∀ s, s < i → s < 12 → ∀ t, (on s).testBit t = true ↔ ec_E so sa sb s t) 12 ?_ 12 0 on (by omega) (fun s h => absurd h (Nat.not_lt_zero s))
  · exact key s hs hs t
  · intro i on hi h s hs hs2 t
    unfold ec_f0
    by_cases e : s = i
    · subst e
      rw [ec_up_s]
      unfold ec_E
      by_cases hw : so s = 1
      · rw [if_pos hw, Nat.testBit_or, Nat.testBit_two_pow, Nat.testBit_two_pow]
        simp [hw, hs2]
      · rw [if_neg hw]
        simp [hw]
    · rw [ec_up_n e]
      exact h s (by omega) hs2 t
theorem ec_f1_mono {on : ec_A} {s u x t : Nat} (h : (on x).testBit t = true) : (ec_f1 s u on x).testBit t = true := by
  unfold ec_f1
  split
  · by_cases e : x = s
    · subst e
      rw [ec_up_s, Nat.testBit_or, h]; rfl
    · rw [ec_up_n e]; exact h
  · exact h
theorem ec_f1_n {on : ec_A} {s u x : Nat} (h : x ≠ s) : ec_f1 s u on x = on x := by
  unfold ec_f1
  split
  · rw [ec_up_n h]
  · rfl
theorem ec_fd_sound {on : ec_A} (ha : ∀ i, i < 12 → sa i < 12) (hb : ∀ i, i < 12 → sb i < 12) {s t : Nat} (hs : s < 12) (h : (ec_fd so sa sb on s).testBit t = true) : ∃ n, ec_R so sa sb n s t := by
  have key := ec_lp_inv (fun _ on => ec_lp (fun s on => ec_lp (ec_f1 s) 12 0 on) 12 0 on) (fun _ on => ∀ s, s < 12 → ∀ t, (on s).testBit t = true → ∃ n, ec_R so sa sb n s t) 12 ?_ 12 0 (ec_fi so sa sb on) (by omega) (fun s hs t h => ⟨0, (ec_fi_iff hs t).mp h⟩)
  · exact key s hs t h
  · intro _ on _ h1
    refine ec_lp_inv (fun s on => ec_lp (ec_f1 s) 12 0 on) (fun _ on => ∀ s, s < 12 → ∀ t, (on s).testBit t = true → ∃ n, ec_R so sa sb n s t) 12 ?_ 12 0 on (by omega) h1
    intro i on hi h2
    refine ec_lp_inv (ec_f1 i) (fun _ on => ∀ s, s < 12 → ∀ t, (on s).testBit t = true → ∃ n, ec_R so sa sb n s t) 12 ?_ 12 0 on (by omega) h2
    intro u on hu h3 s hs t ht
    by_cases e : s = i
    · subst e
      unfold ec_f1 at ht
      split at ht
      · rename_i hb1
        rw [ec_up_s, Nat.testBit_or] at ht
        cases hc : (on s).testBit t with
        | true => exact h3 s hs t hc
        | false =>
          rw [hc, Bool.false_or] at ht
          obtain ⟨n, hn⟩ := h3 s hs u hb1
          obtain ⟨m, hm⟩ := h3 u hu t ht
          exact ec_R_tr hm hn
      · exact h3 s hs t ht
    · rw [ec_f1_n e] at ht
      exact h3 s hs t ht
theorem ec_fd_all {on : ec_A} {n s t : Nat} (hn : n ≤ 12) (h : ec_R so sa sb n s t) : (ec_fd so sa sb on s).testBit t = true := by
  have key := ec_lp_inv (fun _ on => ec_lp (fun s on => ec_lp (ec_f1 s) 12 0 on) 12 0 on) (fun j on => ∀ n, n ≤ j → ∀ s t, ec_R so sa sb n s t → (on s).testBit t = true) 12 ?_ 12 0 (ec_fi so sa sb on) (by omega) ?_
  · exact key n hn s t h
  · intro j on0 _ h0
    have mid := ec_lp_inv (fun s on => ec_lp (ec_f1 s) 12 0 on) (fun i on => (∀ x t, (on0 x).testBit t = true → (on x).testBit t = true) ∧ (∀ x, x < i → ∀ u, u < 12 → ec_E so sa sb x u → ∀ t, (on0 u).testBit t = true → (on x).testBit t = true)) 12 ?_ 12 0 on0 (by omega) ⟨fun _ _ h => h, fun x h => absurd h (Nat.not_lt_zero x)⟩
    · intro n hn s t hst
      cases n with
      | zero => exact mid.1 s t (h0 0 (Nat.zero_le _) s t hst)
      | succ n =>
        obtain ⟨u, h1, h2⟩ := hst
        exact mid.2 s h1.1 u (ec_R_lt h2) h1 t (h0 n (by omega) u t h2)
    · intro i on hi ⟨g1, g2⟩
      have inn := ec_lp_inv (ec_f1 i) (fun v on' => (∀ x t, (on x).testBit t = true → (on' x).testBit t = true) ∧ (∀ u, u < v → ec_E so sa sb i u → ∀ t, (on0 u).testBit t = true → (on' i).testBit t = true)) 12 ?_ 12 0 on (by omega) ⟨fun _ _ h => h, fun x h => absurd h (Nat.not_lt_zero x)⟩
      · refine ⟨fun x t hx => inn.1 x t (g1 x t hx), ?_⟩
        intro x hx u hu hE t ht
        by_cases e : x = i
        · subst e
          exact inn.2 u hu hE t ht
        · exact inn.1 x t (g2 x (by omega) u hu hE t ht)
      · intro v on' hv ⟨k1, k2⟩
        refine ⟨fun x t hx => ec_f1_mono (k1 x t hx), ?_⟩
        intro u hu hE t ht
        by_cases e : u = v
        · subst e
          have hb1 : (on' i).testBit u = true := k1 i u (g1 i u (h0 0 (Nat.zero_le _) i u hE))
          have hb2 : (on' u).testBit t = true := k1 u t (g1 u t ht)
          unfold ec_f1
          rw [if_pos hb1, ec_up_s, Nat.testBit_or, hb2, Bool.or_true]
        · exact ec_f1_mono (k2 u (by omega) hE t ht)
  · intro n hn s t hst
    have e : n = 0 := by omega
    subst e
    exact (ec_fi_iff hst.1 t).mpr hst
theorem ec_fd_iff {on : ec_A} (hac : ec_Ac so sa sb rk) (ha : ∀ i, i < 12 → sa i < 12) (hb : ∀ i, i < 12 → sb i < 12) {s : Nat} (hs : s < 12) (t : Nat) : (ec_fd so sa sb on s).testBit t = true ↔ ∃ n, ec_R so sa sb n s t := by
  constructor
  · exact ec_fd_sound ha hb hs
  · intro ⟨n, h⟩
    exact ec_fd_all (by have := ec_R_n hac h; omega) h
end EcPath
theorem ec_cir_iff (on : ec_A) : ∀ n i, i + n = 12 → (ec_cir on n i = true ↔ ∃ s, i ≤ s ∧ s < 12 ∧ (on s).testBit s = true) := by
  intro n
  induction n with
  | zero =>
    intro i h
    constructor
    · intro hc; exact absurd hc (by simp [ec_cir])
    · intro ⟨s, h1, h2, _⟩; omega
  | succ n ih =>
    intro i h
    unfold ec_cir
    by_cases hb : (on i).testBit i = true
    · rw [if_pos hb]
      exact ⟨fun _ => ⟨i, Nat.le_refl i, by omega, hb⟩, fun _ => rfl⟩
    · rw [if_neg hb, ih (i + 1) (by omega)]
      constructor
      · intro ⟨s, h1, h2, h3⟩; exact ⟨s, by omega, h2, h3⟩
      · intro ⟨s, h1, h2, h3⟩
        have e : s ≠ i := fun e => hb (by rw [← e]; exact h3)
        exact ⟨s, by omega, h2, h3⟩
end
section
/-! the event system's settle -/
section EcSettle
variable {so op sa sb li lv : ec_A}
theorem ec_se_spec (ha : ∀ i, i < 12 → sa i < 12) (hb : ∀ i, i < 12 → sb i < 12) (hli : ec_Li so sa sb li) (hli2 : ∀ i, i < 12 → li i < 4096)
    (hlv : ∀ w, w < 12 → so w = 1 → lv (sa w) < lv w ∧ lv (sb w) < lv w) (vl0 : ec_A) :
    ∀ n (P : Nat → Bool) (ch : Nat) (vl : ec_A) (aw : Nat), ec_cnt P 12 + n = 12 → aw < 4096 →
      (∀ w, aw.testBit w = true → so w = 1 ∧ P w = false) → (∀ p w, P p = true → aw.testBit w = true → lv p ≤ lv w) →
      (∀ w, w < 12 → so w = 1 → aw.testBit w = false → vl w = ec_fm (op w) (vl (sa w)) (vl (sb w))) →
      (∀ w, w < 12 → P w = false → vl w = vl0 w) → (∀ w, so w ≠ 1 → vl w = vl0 w) → (∀ w, w < 12 → vl w < 16) →
      ch = ec_cnt (fun w => decide (vl w ≠ vl0 w)) 12 →
      (ec_se op sa sb li lv n ch vl aw).2.2 = 0 ∧ (∀ w, w < 12 → so w = 1 → (ec_se op sa sb li lv n ch vl aw).2.1 w = ec_fm (op w) ((ec_se op sa sb li lv n ch vl aw).2.1 (sa w)) ((ec_se op sa sb li lv n ch vl aw).2.1 (sb w))) ∧
      (∀ w, so w ≠ 1 → (ec_se op sa sb li lv n ch vl aw).2.1 w = vl0 w) ∧ (∀ w, w < 12 → (ec_se op sa sb li lv n ch vl aw).2.1 w < 16) ∧
      (ec_se op sa sb li lv n ch vl aw).1 = ec_cnt (fun w => decide ((ec_se op sa sb li lv n ch vl aw).2.1 w ≠ vl0 w)) 12 := by
  intro n
  induction n with
  | zero =>
    intro P ch vl aw hn haw hA hL hC hK hN hV hch
    have hP := ec_cnt_full (p := P) (n := 12) (by omega)
    have h0 : aw = 0 := by
      apply Nat.eq_of_testBit_eq
      intro i
      rw [Nat.zero_testBit]
      cases hb1 : aw.testBit i with
      | false => rfl
      | true =>
        have h1 := (hA i hb1).2
        rw [hP i (ec_bit_lt haw hb1)] at h1
        cases h1
    subst h0
    exact ⟨rfl, fun w hw hs => hC w hw hs (Nat.zero_testBit w), hN, hV, hch⟩
  | succ n ih =>
    intro P ch vl aw hn haw hA hL hC hK hN hV hch
    unfold ec_se
    by_cases h0 : aw = 0
    · rw [if_pos h0]
      subst h0
      exact ⟨rfl, fun w hw hs => hC w hw hs (Nat.zero_testBit w), hN, hV, hch⟩
    · rw [if_neg h0]
      obtain ⟨w, hlow, hw, hwb, hmin⟩ := ec_low_spec (lv := lv) haw h0
      rw [hlow]
      simp only [Option.getD_some]
      obtain ⟨hsw, hPw⟩ := hA w hwb
      have hlw := hlv w hw hsw
      have hP' : ec_cnt (fun y => P y || decide (y = w)) 12 + n = 12 := by
        have := ec_cnt_one (p := P) (q := fun y => P y || decide (y = w)) (n := 12) (k := w) (fun i _ hi => by simp [hi]) hw hPw (by simp)
        omega
      have hclr : ∀ y, (ec_clr aw w).testBit y = true → aw.testBit y = true ∧ y ≠ w := by
        intro y hy
        have hy12 : y < 12 := ec_bit_lt (ec_clr_lt haw) hy
        rw [ec_clr_bit aw w y (by omega)] at hy
        simp only [Bool.and_eq_true, Bool.not_eq_true', decide_eq_false_iff_not] at hy
        exact ⟨hy.1, fun e => hy.2 e.symm⟩
      have hclr2 : ∀ y, y < 12 → y ≠ w → aw.testBit y = true → (ec_clr aw w).testBit y = true := by
        intro y hy hne hb1
        rw [ec_clr_bit aw w y (by omega), hb1]
        simp only [Bool.true_and, Bool.not_eq_true', decide_eq_false_iff_not]
        exact fun e => hne e.symm
      by_cases hv : vl w = ec_fm (op w) (vl (sa w)) (vl (sb w))
      · rw [if_pos hv]
        refine ih (fun y => P y || decide (y = w)) ch vl (ec_clr aw w) hP' (ec_clr_lt haw) ?_ ?_ ?_ ?_ hN hV hch
        · intro y hy
          obtain ⟨h1, h2⟩ := hclr y hy
          obtain ⟨h3, h4⟩ := hA y h1
          exact ⟨h3, by simp [h4, h2]⟩
        · intro p y hp hy
          obtain ⟨h1, h2⟩ := hclr y hy
          simp only [Bool.or_eq_true, decide_eq_true_eq] at hp
          rcases hp with hp | hp
          · exact hL p y hp h1
          · rw [hp]; exact hmin y h1
        · intro y hy hsy hby
          by_cases e : y = w
          · rw [e]; exact hv
          · refine hC y hy hsy ?_
            cases hb1 : aw.testBit y with
            | false => rfl
            | true => rw [hclr2 y hy e hb1] at hby; cases hby
        · intro y hy hPy
          simp only [Bool.or_eq_false_iff] at hPy
          exact hK y hy hPy.1
      · rw [if_neg hv]
        have hvl : vl w = vl0 w := hK w hw hPw
        have hor : ∀ y, (ec_clr aw w ||| li w).testBit y = true → (aw.testBit y = true ∧ y ≠ w) ∨ (ec_E so sa sb y w) := by
          intro y hy
          rw [Nat.testBit_or] at hy
          cases hc : (ec_clr aw w).testBit y with
          | true => exact Or.inl (hclr y hc)
          | false =>
            rw [hc, Bool.false_or] at hy
            exact Or.inr ((hli w hw y).mp hy)
        have hEl : ∀ y, ec_E so sa sb y w → lv w < lv y := by
          intro y hy
          obtain ⟨h1, h2, h3⟩ := hy
          have := hlv y h1 h2
          rcases h3 with h3 | h3
          · rw [h3] at this; exact this.1
          · rw [h3] at this; exact this.2
        refine ih (fun y => P y || decide (y = w)) (ch + 1) (ec_up vl w (ec_fm (op w) (vl (sa w)) (vl (sb w)))) (ec_clr aw w ||| li w) hP' (ec_or_lt (ec_clr_lt haw) (hli2 w hw)) ?_ ?_ ?_ ?_ ?_ ?_ ?_
        · intro y hy
          rcases hor y hy with ⟨h1, h2⟩ | hE
          · obtain ⟨h3, h4⟩ := hA y h1
            exact ⟨h3, by simp [h4, h2]⟩
          · have hlt := hEl y hE
            refine ⟨hE.2.1, ?_⟩
            have h2 : y ≠ w := fun e => by rw [e] at hlt; omega
            have h4 : P y = false := by
              cases hp : P y with
              | false => rfl
              | true => have := hL y w hp hwb; omega
            simp [h4, h2]
        · intro p y hp hy
          have hpw : lv p ≤ lv w := by
            simp only [Bool.or_eq_true, decide_eq_true_eq] at hp
            rcases hp with hp | hp
            · exact hL p w hp hwb
            · rw [hp]; exact Nat.le_refl _
          rcases hor y hy with ⟨h1, h2⟩ | hE
          · have := hmin y h1; omega
          · have := hEl y hE; omega
        · intro y hy hsy hby
          rw [Nat.testBit_or, Bool.or_eq_false_iff] at hby
          obtain ⟨hb1, hb2⟩ := hby
          have hnE : ¬ ec_E so sa sb y w := fun hE => by
            rw [(hli w hw y).mpr hE] at hb2
            cases hb2
          have hna : sa y ≠ w := fun e => hnE ⟨hy, hsy, Or.inl e⟩
          have hnb : sb y ≠ w := fun e => hnE ⟨hy, hsy, Or.inr e⟩
          rw [ec_up_n hna, ec_up_n hnb]
          by_cases e : y = w
          · rw [e, ec_up_s]
          · rw [ec_up_n e]
            refine hC y hy hsy ?_
            cases hb3 : aw.testBit y with
            | false => rfl
            | true => rw [hclr2 y hy e hb3] at hb1; cases hb1
        · intro y hy hPy
          simp only [Bool.or_eq_false_iff, decide_eq_false_iff_not] at hPy
          rw [ec_up_n hPy.2]
          exact hK y hy hPy.1
        · intro y hsy
          have e : y ≠ w := fun e => hsy (by rw [e]; exact hsw)
          rw [ec_up_n e]
          exact hN y hsy
        · exact ec_up_lt hV (ec_fm_lt (hV _ (ha w hw)) (hV _ (hb w hw)))
        · rw [hch]
          refine (ec_cnt_one (k := w) ?_ hw ?_ ?_).symm
          · intro i _ hi
            simp only [ec_up_n hi]
          · simp [hvl]
          · simp only [ec_up_s, ne_eq, decide_not, Bool.not_eq_true', decide_eq_false_iff_not]
            exact fun e => hv (by rw [hvl]; exact e.symm)
/-- bounds alone, for the walk -/
theorem ec_se_step_lt (ha : ∀ i, i < 12 → sa i < 12) (hb : ∀ i, i < 12 → sb i < 12) {vl : ec_A} (hV : ∀ w, w < 12 → vl w < 16) {w : Nat} (hw : w < 12) :
    ∀ y, y < 12 → ec_up vl w (ec_fm (op w) (vl (sa w)) (vl (sb w))) y < 16 :=
  ec_up_lt hV (ec_fm_lt (hV _ (ha w hw)) (hV _ (hb w hw)))
end EcSettle
end
section
/-! the relation of both systems, and what settles it -/
/-- the first system in order: bounds, a rank, listeners and levels of the wires, nothing awake, every wire worked out -/
def XI (σ : XS) : Prop := XWF σ ∧ (∃ rk, ec_Ac (xso σ) (xsa σ) (xsb σ) rk) ∧ ec_Li (xso σ) (xsa σ) (xsb σ) (xli σ) ∧ (∀ w, w < 12 → xlv σ w = if xso σ w = 1 then ec_mx (xlv σ (xsa σ w)) (xlv σ (xsb σ w)) else 0) ∧ xaw σ = 0 ∧ (∀ w, w < 12 → xso σ w = 1 → xvl σ w = ec_fm (xop σ w) (xvl σ (xsa σ w)) (xvl σ (xsb σ w)))
def Rel (σ : XS) (τ : MS) : Prop := XI σ ∧ MWF τ ∧ ∀ i, i < 12 → mkd τ i = xso σ i ∧ mvl τ i = xvl σ i ∧ (xso σ i ≠ 0 → mop τ i = xop σ i ∧ ma τ i = xsa σ i ∧ mb τ i = xsb σ i) ∧ (xso σ i = 2 → mck τ i = xck σ i)
theorem ec_ls_bit {so sa sb li : ec_A} {i s w : Nat} : (ec_ls so sa sb i li s).testBit w = ((li s).testBit w || (decide (so i = 1 ∧ (sa i = s ∨ sb i = s)) && decide (i = w))) := by
  unfold ec_ls
  by_cases h : so i = 1
  · rw [if_pos h]
    by_cases hb : s = sb i
    · rw [hb, ec_up_s, Nat.testBit_or, Nat.testBit_two_pow]
      by_cases ha : sb i = sa i
      · rw [ha, ec_up_s, Nat.testBit_or, Nat.testBit_two_pow]
        simp [h, ← ha]
      · rw [ec_up_n ha]
        simp [h]
    · rw [ec_up_n hb]
      by_cases ha : s = sa i
      · rw [ha, ec_up_s, Nat.testBit_or, Nat.testBit_two_pow]
        simp [h]
      · rw [ec_up_n ha]
        have h1 : ¬ sa i = s := fun e => ha e.symm
        have h2 : ¬ sb i = s := fun e => hb e.symm
        simp [h1, h2]
  · rw [if_neg h]
    simp [h]
theorem ec_Li_of {so sa sb li : ec_A} (h0 : ∀ i, i < 12 → li i = 0) : ec_Li so sa sb (ec_lp (ec_ls so sa sb) 12 0 li) := by
  have key := ec_lp_inv (ec_ls so sa sb) (fun i z => ∀ s, s < 12 → ∀ w, (z s).testBit w = true ↔ w < i ∧ ec_E so sa sb w s) 12 ?_ 12 0 li (by decide) ?_
  · intro s hs w
    rw [key s hs w]
    exact ⟨fun h => h.2, fun h => ⟨h.1, h⟩⟩
  · intro i z hi h s hs w
    rw [ec_ls_bit]
    simp only [Bool.or_eq_true, Bool.and_eq_true, decide_eq_true_eq]
    rw [h s hs w]
    unfold ec_E
    constructor
    · rintro (⟨h1, h2⟩ | ⟨⟨h1, h2⟩, h3⟩)
      · exact ⟨by omega, h2⟩
      · subst h3
        exact ⟨by omega, hi, h1, h2⟩
    · rintro ⟨h1, h2, h3, h4⟩
      by_cases e : i = w
      · subst e
        exact Or.inr ⟨⟨h3, h4⟩, rfl⟩
      · exact Or.inl ⟨by omega, h2, h3, h4⟩
  · intro s hs w
    rw [h0 s hs, Nat.zero_testBit]
    constructor
    · intro h; cases h
    · rintro ⟨h, _⟩; exact absurd h (Nat.not_lt_zero _)
theorem x_connect_ok {σ : XS} (hW : XWF σ) {rk : ec_A} (hac : ec_Ac (xso σ) (xsa σ) (xsb σ) rk) :
    ec_Li (xso σ) (xsa σ) (xsb σ) (x_li σ) ∧ (∀ w, w < 12 → x_lv σ w = if xso σ w = 1 then ec_mx (x_lv σ (xsa σ w)) (x_lv σ (xsb σ w)) else 0) := by
  constructor
  · exact ec_Li_of (fun i hi => (x_cl_0 σ i hi).1)
  · obtain ⟨h1, h2⟩ := ec_rds_fix (F := ec_LF) hac hW.2.2.2.1 hW.2.2.2.2.1 (x_cl σ).2
    intro w hw
    by_cases hs : xso σ w = 1
    · rw [if_pos hs]
      exact h1 w hw hs
    · rw [if_neg hs]
      exact (h2 w hs).trans (x_cl_0 σ w hw).2
theorem ec_mx_lt (p q : Nat) : p < ec_mx p q ∧ q < ec_mx p q := by
  unfold ec_mx
  split <;> omega
theorem x_settle_ok {σ : XS} (hW : XWF σ) {rk : ec_A} (hac : ec_Ac (xso σ) (xsa σ) (xsb σ) rk) (hli : ec_Li (xso σ) (xsa σ) (xsb σ) (xli σ))
    (hlv : ∀ w, w < 12 → xlv σ w = if xso σ w = 1 then ec_mx (xlv σ (xsa σ w)) (xlv σ (xsb σ w)) else 0)
    (hA : ∀ w, (xaw σ).testBit w = true → xso σ w = 1) (hC : ∀ w, w < 12 → xso σ w = 1 → (xaw σ).testBit w = false → xvl σ w = ec_fm (xop σ w) (xvl σ (xsa σ w)) (xvl σ (xsb σ w))) :
    XI (x_settle σ) ∧ (∀ w, xso σ w ≠ 1 → xvl (x_settle σ) w = xvl σ w) ∧ (x_se σ).1 = ec_cnt (fun w => decide (xvl (x_settle σ) w ≠ xvl σ w)) 12 := by
  have hl : ∀ w, w < 12 → xso σ w = 1 → xlv σ (xsa σ w) < xlv σ w ∧ xlv σ (xsb σ w) < xlv σ w := by
    intro w hw hs
    have h := hlv w hw
    rw [if_pos hs] at h
    rw [h]
    exact ec_mx_lt _ _
  have h9 := hW
  obtain ⟨h1, h2, h3, h4, h5, h6, h7, h8, ha, hb, hc⟩ := hW
  have key := ec_se_spec (op := xop σ) h4 h5 hli h7 hl (xvl σ) 12 (fun _ => false) 0 (xvl σ) (xaw σ) (by rw [ec_cnt_0 (fun _ _ => rfl)]) ha (fun w h => ⟨hA w h, rfl⟩) (fun p w h => by cases h) hC (fun _ _ _ => rfl) (fun _ _ => rfl) h2 (by rw [ec_cnt_0 (fun i _ => by simp)])
  obtain ⟨k1, k2, k3, k4, k5⟩ := key
  exact ⟨⟨xwf_settle h9, ⟨rk, hac⟩, hli, hlv, k1, k2⟩, k3, k5⟩
/-- both systems behind a settling: same graph, same values at rest -/
theorem rel_fin {σ : XS} {τ : MS} (hX : XI σ) (hM : MWF τ) (h : ∀ i, i < 12 → mkd τ i = xso σ i ∧ (xso σ i ≠ 1 → mvl τ i = xvl σ i) ∧ (xso σ i ≠ 0 → mop τ i = xop σ i ∧ ma τ i = xsa σ i ∧ mb τ i = xsb σ i) ∧ (xso σ i = 2 → mck τ i = xck σ i)) : Rel σ (m_settle τ) := by
  have hX0 := hX
  obtain ⟨hW, ⟨rk, hac⟩, hli, hlv, haw, hC⟩ := hX
  have hac2 : ec_Ac (mkd τ) (ma τ) (mb τ) rk := by
    refine ⟨hac.1, fun w hw hs => ?_⟩
    obtain ⟨g1, g2, g3, g4⟩ := h w hw
    rw [g1] at hs
    obtain ⟨g5, g6, g7⟩ := g3 (by rw [hs]; decide)
    rw [g6, g7]
    exact hac.2 w hw hs
  obtain ⟨k1, k2⟩ := ec_rds_fix (F := ec_VF (mop τ)) hac2 hM.2.2.1 hM.2.2.2.1 (mvl τ)
  have key : ∀ w, w < 12 → xvl σ w = ec_rds (mkd τ) (ma τ) (mb τ) (ec_VF (mop τ)) (mvl τ) w := by
    refine ec_uniq (so := xso σ) (sa := xsa σ) (sb := xsb σ) (rk := rk) (F := ec_VF (xop σ)) hac hW.2.2.2.1 hW.2.2.2.2.1 hC ?_ ?_
    · intro w hw hs
      obtain ⟨g1, g2, g3, g4⟩ := h w hw
      obtain ⟨g5, g6, g7⟩ := g3 (by rw [hs]; decide)
      have k := k1 w hw (by rw [g1]; exact hs)
      rw [g6, g7] at k
      rw [k]
      show ec_fm (mop τ w) _ _ = ec_fm (xop σ w) _ _
      rw [g5]
    · intro w hw hs
      obtain ⟨g1, g2, g3, g4⟩ := h w hw
      rw [k2 w (by rw [g1]; exact hs)]
      exact (g2 hs).symm
  refine ⟨hX0, mwf_settle hM, fun i hi => ?_⟩
  obtain ⟨g1, g2, g3, g4⟩ := h i hi
  exact ⟨g1, (key i hi).symm, g3, g4⟩
end
section
/-! building: wire, register, free -/
theorem xso_VA (σ : XS) (v : ec_A) (a : Nat) : xso (xsVA σ v a) = xso σ := rfl
theorem x_def_ok {σ T : XS} {k w o a b : Nat} {rk : ec_A} (hX : XI σ) (hT : XWF T)
    (e1 : xso T = ec_up (xso σ) k w) (e2 : xvl T = xvl σ) (e3 : xop T = ec_up (xop σ) k o) (e4 : xsa T = ec_up (xsa σ) k a) (e5 : xsb T = ec_up (xsb σ) k b)
    (hac : ec_Ac (xso T) (xsa T) (xsb T) rk) (hli : ec_Li (xso T) (xsa T) (xsb T) (xli T))
    (hlv : ∀ w, w < 12 → xlv T w = if xso T w = 1 then ec_mx (xlv T (xsa T w)) (xlv T (xsb T w)) else 0)
    (ea : ∀ y, (xaw T).testBit y = true ↔ (w = 1 ∧ y = k)) : XI (x_settle T) ∧ (∀ i, xso T i ≠ 1 → xvl (x_settle T) i = xvl σ i) := by
  have key := x_settle_ok hT hac hli hlv ?_ ?_
  · refine ⟨key.1, fun i hi => ?_⟩
    rw [key.2.1 i hi, e2]
  · intro y hy
    obtain ⟨h1, h2⟩ := (ea y).mp hy
    rw [e1, h2, ec_up_s, h1]
  · intro y hy hs hb
    have hne : y ≠ k := by
      intro e
      subst e
      rw [e1, ec_up_s] at hs
      rw [(ea y).mpr ⟨hs, rfl⟩] at hb
      cases hb
    rw [e1, ec_up_n hne] at hs
    rw [e2, e3, e4, e5, ec_up_n hne, ec_up_n hne, ec_up_n hne]
    exact hX.2.2.2.2.2 y hy hs
theorem x_wk_aw (σ : XS) (k w : Nat) (h0 : xaw σ = 0) : ∀ y, (xaw (x_wk σ k w)).testBit y = true ↔ (w = 1 ∧ y = k) := by
  intro y
  unfold x_wk
  by_cases h : w = 1
  · rw [if_pos h]
    show (xaw σ ||| 2 ^ k).testBit y = true ↔ _
    rw [h0, Nat.testBit_or, Nat.zero_testBit, Bool.false_or, Nat.testBit_two_pow, decide_eq_true_eq]
    exact ⟨fun e => ⟨h, e.symm⟩, fun e => e.2.symm⟩
  · rw [if_neg h, h0, Nat.zero_testBit]
    exact ⟨fun e => (by cases e), fun e => absurd e.1 h⟩
theorem x_wk_kp (σ : XS) (k w : Nat) : xso (x_wk σ k w) = xso σ ∧ xvl (x_wk σ k w) = xvl σ ∧ xop (x_wk σ k w) = xop σ ∧ xsa (x_wk σ k w) = xsa σ ∧ xsb (x_wk σ k w) = xsb σ ∧ xck (x_wk σ k w) = xck σ ∧ xli (x_wk σ k w) = xli σ ∧ xlv (x_wk σ k w) = xlv σ := by
  unfold x_wk
  split
  · exact ⟨rfl, rfl, rfl, rfl, rfl, rfl, rfl, rfl⟩
  · exact ⟨rfl, rfl, rfl, rfl, rfl, rfl, rfl, rfl⟩
theorem xwf_wk {σ : XS} (h : XWF σ) {k w : Nat} (hk : k < 12) : XWF (x_wk σ k w) := by
  unfold x_wk
  split
  · exact xwf_aw h (ec_or_lt h.2.2.2.2.2.2.2.2.1 (ec_pow_lt hk))
  · exact h
theorem x_con_kp (σ : XS) (li lv : ec_A) : xso (xsLL σ li lv) = xso σ ∧ xvl (xsLL σ li lv) = xvl σ ∧ xop (xsLL σ li lv) = xop σ ∧ xsa (xsLL σ li lv) = xsa σ ∧ xsb (xsLL σ li lv) = xsb σ ∧ xck (xsLL σ li lv) = xck σ ∧ xli (xsLL σ li lv) = li ∧ xlv (xsLL σ li lv) = lv ∧ xaw (xsLL σ li lv) = xaw σ := ⟨rfl, rfl, rfl, rfl, rfl, rfl, rfl, rfl, rfl⟩
theorem x_set_kp (σ : XS) (v : ec_A) (a : Nat) : xso (xsVA σ v a) = xso σ ∧ xop (xsVA σ v a) = xop σ ∧ xsa (xsVA σ v a) = xsa σ ∧ xsb (xsVA σ v a) = xsb σ ∧ xck (xsVA σ v a) = xck σ := ⟨rfl, rfl, rfl, rfl, rfl⟩
/-- define, from a state σ in order, the clocks of σ0 as they are -/
theorem x_define_ok {σ σ0 : XS} {k w o a b : Nat} {rk : ec_A} (hX : XI σ) (hW : XWF σ0) (e1 : xso σ0 = xso σ) (e2 : xvl σ0 = xvl σ) (e3 : xop σ0 = xop σ) (e4 : xsa σ0 = xsa σ) (e5 : xsb σ0 = xsb σ) (e6 : xaw σ0 = xaw σ)
    (hk : k < 12) (hw : w < 3) (ho : o < 9) (ha : a < 12) (hb : b < 12) (hac : ec_Ac (ec_up (xso σ) k w) (ec_up (xsa σ) k a) (ec_up (xsb σ) k b) rk) :
    XI (x_define σ0 k w o a b) ∧ xso (x_define σ0 k w o a b) = ec_up (xso σ) k w ∧ xop (x_define σ0 k w o a b) = ec_up (xop σ) k o ∧ xsa (x_define σ0 k w o a b) = ec_up (xsa σ) k a ∧ xsb (x_define σ0 k w o a b) = ec_up (xsb σ) k b ∧ xck (x_define σ0 k w o a b) = xck σ0 ∧ (∀ i, ec_up (xso σ) k w i ≠ 1 → xvl (x_define σ0 k w o a b) i = xvl σ i) := by
  have hWd : XWF (x_df σ0 k w o a b) := xwf_df hW hw ho ha hb
  obtain ⟨D, hD⟩ : ∃ D, D = x_df σ0 k w o a b := ⟨_, rfl⟩
  have d1 : xso D = ec_up (xso σ) k w := by rw [hD, ← e1]; rfl
  have d2 : xvl D = xvl σ := by rw [hD, ← e2]; rfl
  have d3 : xop D = ec_up (xop σ) k o := by rw [hD, ← e3]; rfl
  have d4 : xsa D = ec_up (xsa σ) k a := by rw [hD, ← e4]; rfl
  have d5 : xsb D = ec_up (xsb σ) k b := by rw [hD, ← e5]; rfl
  have d6 : xaw D = 0 := by rw [← hX.2.2.2.2.1, ← e6, hD]; rfl
  have d7 : xck D = xck σ0 := by rw [hD]; rfl
  rw [← hD] at hWd
  unfold x_define
  rw [← hD]
  have hacD : ec_Ac (xso D) (xsa D) (xsb D) rk := by rw [d1, d4, d5]; exact hac
  obtain ⟨c1, c2⟩ := x_connect_ok hWd hacD
  have hWc := xwf_connect hWd hacD
  obtain ⟨C, hC⟩ : ∃ C, C = x_connect D := ⟨_, rfl⟩
  obtain ⟨p1, p2, p3, p4, p5, p6, p7, p8, p9⟩ := x_con_kp D (x_li D) (x_lv D)
  have hC2 : C = xsLL D (x_li D) (x_lv D) := hC
  rw [← hC2] at p1 p2 p3 p4 p5 p6 p7 p8 p9
  rw [← hC] at hWc ⊢
  obtain ⟨q1, q2, q3, q4, q5, q6, q7, q8⟩ := x_wk_kp C k w
  have hWT := xwf_wk hWc (k := k) (w := w) hk
  have qa := x_wk_aw C k w (by rw [p9, d6])
  generalize x_wk C k w = T at q1 q2 q3 q4 q5 q6 q7 q8 hWT qa ⊢
  have key := x_def_ok (σ := σ) (T := T) (k := k) (w := w) (o := o) (a := a) (b := b) (rk := rk) hX hWT (by rw [q1, p1, d1]) (by rw [q2, p2, d2]) (by rw [q3, p3, d3]) (by rw [q4, p4, d4]) (by rw [q5, p5, d5]) (by rw [q1, q4, q5, p1, p4, p5]; exact hacD) (by rw [q1, q4, q5, q7, p1, p4, p5, p7]; exact c1) (by rw [q1, q4, q5, q8, p1, p4, p5, p8]; exact c2) qa
  obtain ⟨z1, z2, z3, z4, z5⟩ := x_set_kp T (x_se T).2.1 (x_se T).2.2
  have hS : x_settle T = xsVA T (x_se T).2.1 (x_se T).2.2 := rfl
  rw [← hS] at z1 z2 z3 z4 z5
  refine ⟨key.1, by rw [z1, q1, p1, d1], by rw [z2, q3, p3, d3], by rw [z3, q4, p4, d4], by rw [z4, q5, p5, d5], by rw [z5, q6, p6, d7], ?_⟩
  intro i hi
  exact key.2 i (by rw [q1, p1, d1]; exact hi)
theorem rel_step {σ σ' : XS} {τ τ0 : MS} (hR : Rel σ τ) (hX' : XI σ') (hM : MWF τ0) {k w : Nat}
    (f1 : xso σ' = ec_up (xso σ) k w) (f2 : ∀ i, xso σ' i ≠ 1 → xvl σ' i = xvl σ i) (f3 : ∀ i, i ≠ k → xop σ' i = xop σ i ∧ xsa σ' i = xsa σ i ∧ xsb σ' i = xsb σ i ∧ xck σ' i = xck σ i)
    (g1 : mkd τ0 = ec_up (mkd τ) k w) (g2 : mvl τ0 = mvl τ) (g3 : ∀ i, i ≠ k → mop τ0 i = mop τ i ∧ ma τ0 i = ma τ i ∧ mb τ0 i = mb τ i ∧ mck τ0 i = mck τ i)
    (gk : w ≠ 0 → mop τ0 k = xop σ' k ∧ ma τ0 k = xsa σ' k ∧ mb τ0 k = xsb σ' k) (gc : w = 2 → mck τ0 k = xck σ' k) : Rel σ' (m_settle τ0) := by
  refine rel_fin hX' hM (fun i hi => ?_)
  obtain ⟨r1, r2, r3, r4⟩ := hR.2.2 i hi
  by_cases e : i = k
  · subst e
    have hs : xso σ' i = w := by rw [f1, ec_up_s]
    refine ⟨by rw [g1, ec_up_s, hs], fun h => ?_, fun h => ?_, fun h => ?_⟩
    · rw [g2, f2 i h]; exact r2
    · exact gk (by rw [← hs]; exact h)
    · exact gc (by rw [← hs]; exact h)
  · have hs : xso σ' i = xso σ i := by rw [f1, ec_up_n e]
    obtain ⟨a1, a2, a3, a4⟩ := f3 i e
    obtain ⟨b1, b2, b3, b4⟩ := g3 i e
    refine ⟨by rw [g1, ec_up_n e, hs]; exact r1, fun h => ?_, fun h => ?_, fun h => ?_⟩
    · rw [g2, f2 i h]; exact r2
    · rw [hs] at h
      rw [a1, a2, a3, b1, b2, b3]
      exact r3 h
    · rw [hs] at h
      rw [a4, b4]
      exact r4 h
theorem ec_ck_congr {so ck so' ck' : ec_A} {k : Nat} (h : ∀ i, i < 12 → so' i = so i ∧ (so i = 2 → ck' i = ck i)) : ∀ n i, i + n = 12 → ec_ck so' ck' k n i = ec_ck so ck k n i := by
  intro n
  induction n with
  | zero => intro i _; rfl
  | succ n ih =>
    intro i hi
    obtain ⟨h1, h2⟩ := h i (by omega)
    unfold ec_ck
    rw [ih (i + 1) (by omega), h1]
    by_cases hs : so i = 2
    · rw [h2 hs]
    · rw [if_neg (fun g => hs g.1), if_neg (fun g => hs g.1)]
theorem rel_ck {σ : XS} {τ : MS} (hR : Rel σ τ) (k : Nat) : ec_ck (mkd τ) (mck τ) k 12 0 = ec_ck (xso σ) (xck σ) k 12 0 :=
  ec_ck_congr (fun i hi => ⟨(hR.2.2 i hi).1, (hR.2.2 i hi).2.2.2⟩) 12 0 (by decide)
/-- a graph in which k is no wire keeps its rank -/
theorem ac_keep {so sa sb rk : ec_A} (hac : ec_Ac so sa sb rk) {k w a b : Nat} (hw : w ≠ 1) : ec_Ac (ec_up so k w) (ec_up sa k a) (ec_up sb k b) rk := by
  refine ⟨hac.1, fun y hy hs => ?_⟩
  have e : y ≠ k := by
    intro e
    subst e
    rw [ec_up_s] at hs
    exact hw hs
  rw [ec_up_n e] at hs ⊢
  rw [ec_up_n e]
  exact hac.2 y hy hs
theorem ac_wire {so sa sb li rk : ec_A} (hac : ec_Ac so sa sb rk) (ha : ∀ i, i < 12 → sa i < 12) (hb : ∀ i, i < 12 → sb i < 12) (hli : ec_Li so sa sb li) {k a b : Nat} (hk : k < 12) (ha1 : a < 12) (hb1 : b < 12)
    (na : k ≠ a ∧ (x_hang li k).testBit a = false) (nb : k ≠ b ∧ (x_hang li k).testBit b = false) : ∃ rk', ec_Ac (ec_up so k 1) (ec_up sa k a) (ec_up sb k b) rk' := by
  have up : ∀ y u, ec_E so sa sb y u → (u = k ∨ (x_hang li k).testBit u = true) → (x_hang li k).testBit y = true := by
    intro y u hE hu
    rw [ec_hang_iff hac hli hk]
    rcases hu with hu | hu
    · rw [hu] at hE
      exact ⟨0, hE⟩
    · obtain ⟨n, hn⟩ := (ec_hang_iff hac hli hk u).mp hu
      exact ⟨n + 1, u, hE, hn⟩
  refine ec_rank (rk := fun y => if y = k ∨ (x_hang li k).testBit y = true then rk y + 12 else rk y) (ec_up_lt ha ha1) (ec_up_lt hb hb1) ?_
  intro y hy hs
  have lo : ∀ u, u < 12 → ¬ (u = k ∨ (x_hang li k).testBit u = true) → (if u = k ∨ (x_hang li k).testBit u = true then rk u + 12 else rk u) < 12 := by
    intro u hu h
    rw [if_neg h]
    exact hac.1 u hu
  by_cases e : y = k
  · subst e
    rw [ec_up_s, ec_up_s]
    have h1 := lo a ha1 (by rintro (h | h); exact na.1 h.symm; rw [na.2] at h; cases h)
    have h2 := lo b hb1 (by rintro (h | h); exact nb.1 h.symm; rw [nb.2] at h; cases h)
    show (if a = y ∨ _ then _ else _) < (if y = y ∨ _ then _ else _) ∧ (if b = y ∨ _ then _ else _) < (if y = y ∨ _ then _ else _)
    rw [if_pos (Or.inl rfl)]
    constructor <;> omega
  · rw [ec_up_n e] at hs
    rw [ec_up_n e, ec_up_n e]
    have hr := hac.2 y hy hs
    have st : ∀ u, ec_E so sa sb y u → rk u < rk y → (if u = k ∨ (x_hang li k).testBit u = true then rk u + 12 else rk u) < (if y = k ∨ (x_hang li k).testBit y = true then rk y + 12 else rk y) := by
      intro u hE hlt
      by_cases hu : u = k ∨ (x_hang li k).testBit u = true
      · rw [if_pos hu, if_pos (Or.inr (up y u hE hu))]
        omega
      · rw [if_neg hu]
        split <;> omega
    exact ⟨st _ ⟨hy, hs, Or.inl rfl⟩ hr.1, st _ ⟨hy, hs, Or.inr rfl⟩ hr.2⟩
theorem x_leads_f {σ : XS} {k a : Nat} (h : x_leads σ k a = false) : k ≠ a ∧ (x_hang (xli σ) k).testBit a = false := by
  unfold x_leads at h
  by_cases e : k = a
  · rw [if_pos e] at h; cases h
  · rw [if_neg e] at h; exact ⟨e, h⟩
theorem x_leads_t {σ : XS} {k a : Nat} (h : x_leads σ k a = true) : k = a ∨ (x_hang (xli σ) k).testBit a = true := by
  unfold x_leads at h
  by_cases e : k = a
  · exact Or.inl e
  · rw [if_neg e] at h; exact Or.inr h
theorem xi_new {σ : XS} (hX : XI σ) {k a b : Nat} (hk : k < 12) (ha : a < 12) (hb : b < 12) (h1 : x_leads σ k a = false) (h2 : x_leads σ k b = false) : ∃ rk, ec_Ac (ec_up (xso σ) k 1) (ec_up (xsa σ) k a) (ec_up (xsb σ) k b) rk := by
  obtain ⟨hW, ⟨rk, hac⟩, hli, -, -, -⟩ := hX
  exact ac_wire hac hW.2.2.2.1 hW.2.2.2.2.1 hli hk ha hb (x_leads_f h1) (x_leads_f h2)
/-- paths of a graph and of another that has the same wires -/
theorem ec_R_congr {so sa sb so' sa' sb' : ec_A} (h : ∀ y u, ec_E so sa sb y u → ec_E so' sa' sb' y u) {n : Nat} : ∀ {y t : Nat}, ec_R so sa sb n y t → ec_R so' sa' sb' n y t := by
  induction n with
  | zero => intro y t hR; exact h y t hR
  | succ n ih =>
    intro y t hR
    obtain ⟨u, h1, h2⟩ := hR
    exact ⟨u, h y u h1, ih h2⟩
/-- a path that ends at k doesn't pass k before -/
theorem ec_R_new {so sa sb rk : ec_A} (hac : ec_Ac so sa sb rk) {k a b : Nat} {n : Nat} : ∀ {y : Nat}, ec_R so sa sb n y k → ec_R (ec_up so k 1) (ec_up sa k a) (ec_up sb k b) n y k := by
  have hE : ∀ y u, y ≠ k → ec_E so sa sb y u → ec_E (ec_up so k 1) (ec_up sa k a) (ec_up sb k b) y u := by
    intro y u hne ⟨h1, h2, h3⟩
    refine ⟨h1, by rw [ec_up_n hne]; exact h2, by rw [ec_up_n hne, ec_up_n hne]; exact h3⟩
  induction n with
  | zero =>
    intro y h
    have := ec_E_rk hac h
    exact hE y k (fun e => by rw [e] at this; omega) h
  | succ n ih =>
    intro y h
    have hr := ec_R_rk hac h
    obtain ⟨u, h1, h2⟩ := h
    exact ⟨u, hE y u (fun e => by rw [e] at hr; omega) h1, ih h2⟩
theorem circle_t {so sa sb li rk on : ec_A} (hac : ec_Ac so sa sb rk) (hli : ec_Li so sa sb li) {k a b c : Nat} (hk : k < 12) (hc : c = a ∨ c = b) (h : k = c ∨ (x_hang li k).testBit c = true) :
    (ec_fd (ec_up so k 1) (ec_up sa k a) (ec_up sb k b) on k).testBit k = true := by
  have hE : ec_E (ec_up so k 1) (ec_up sa k a) (ec_up sb k b) k c := by
    refine ⟨hk, ec_up_s, ?_⟩
    rw [ec_up_s, ec_up_s]
    rcases hc with hc | hc
    · exact Or.inl hc.symm
    · exact Or.inr hc.symm
  rcases h with h | h
  · subst h
    exact ec_fd_all (n := 0) (by decide) hE
  · obtain ⟨n, hn⟩ := (ec_hang_iff hac hli hk c).mp h
    have := ec_R_n hac hn
    exact ec_fd_all (n := n + 1) (by omega) ⟨c, hE, ec_R_new hac hn⟩
end
section
/-! wire, register, free: both systems answer the same and stay related -/
theorem rel_E {σ : XS} {τ : MS} (hR : Rel σ τ) {k o a b : Nat} : (∀ y u, ec_E (ec_up (xso σ) k 1) (ec_up (xsa σ) k a) (ec_up (xsb σ) k b) y u ↔ ec_E (mkd (m_give τ k 1 o a b)) (ma (m_give τ k 1 o a b)) (mb (m_give τ k 1 o a b)) y u) := by
  intro y u
  show _ ↔ ec_E (ec_up (mkd τ) k 1) (ec_up (ma τ) k a) (ec_up (mb τ) k b) y u
  unfold ec_E
  by_cases e : y = k
  · subst e
    rw [ec_up_s, ec_up_s, ec_up_s, ec_up_s, ec_up_s, ec_up_s]
  · rw [ec_up_n e, ec_up_n e, ec_up_n e, ec_up_n e, ec_up_n e, ec_up_n e]
    constructor
    · rintro ⟨h1, h2, h3⟩
      obtain ⟨r1, r2, r3, r4⟩ := hR.2.2 y h1
      obtain ⟨r5, r6, r7⟩ := r3 (by rw [h2]; decide)
      exact ⟨h1, by rw [r1]; exact h2, by rw [r6, r7]; exact h3⟩
    · rintro ⟨h1, h2, h3⟩
      obtain ⟨r1, r2, r3, r4⟩ := hR.2.2 y h1
      rw [r1] at h2
      obtain ⟨r5, r6, r7⟩ := r3 (by rw [h2]; decide)
      rw [r6, r7] at h3
      exact ⟨h1, h2, h3⟩
theorem m_give_kp (τ : MS) (k w o a b : Nat) : mkd (m_give τ k w o a b) = ec_up (mkd τ) k w ∧ mop (m_give τ k w o a b) = ec_up (mop τ) k o ∧ ma (m_give τ k w o a b) = ec_up (ma τ) k a ∧ mb (m_give τ k w o a b) = ec_up (mb τ) k b ∧ mck (m_give τ k w o a b) = mck τ ∧ mvl (m_give τ k w o a b) = mvl τ := ⟨rfl, rfl, rfl, rfl, rfl, rfl⟩
theorem m_on_kp (τ : MS) (v : ec_A) : mkd (msOn τ v) = mkd τ ∧ mop (msOn τ v) = mop τ ∧ ma (msOn τ v) = ma τ ∧ mb (msOn τ v) = mb τ ∧ mck (msOn τ v) = mck τ ∧ mvl (msOn τ v) = mvl τ := ⟨rfl, rfl, rfl, rfl, rfl, rfl⟩
theorem m_find_kp (τ : MS) : mkd (m_find τ) = mkd τ ∧ mop (m_find τ) = mop τ ∧ ma (m_find τ) = ma τ ∧ mb (m_find τ) = mb τ ∧ mck (m_find τ) = mck τ ∧ mvl (m_find τ) = mvl τ := m_on_kp τ _
theorem m_ck_kp (τ : MS) (v : ec_A) : mkd (msCk τ v) = mkd τ ∧ mop (msCk τ v) = mop τ ∧ ma (msCk τ v) = ma τ ∧ mb (msCk τ v) = mb τ ∧ mck (msCk τ v) = v ∧ mvl (msCk τ v) = mvl τ := ⟨rfl, rfl, rfl, rfl, rfl, rfl⟩
/-- the circle check of both -/
theorem rel_circle {σ : XS} {τ : MS} (hR : Rel σ τ) {k o a b : Nat} (hk : k < 12) (ha : a < 12) (hb : b < 12) (ho : o < 9) : ec_cir (mon (m_find (m_give τ k 1 o a b))) 12 0 = true ↔ (x_leads σ k a = true ∨ x_leads σ k b = true) := by
  rw [ec_cir_iff _ 12 0 (by decide), mon_find]
  have hX := hR.1
  have hE := rel_E (o := o) (a := a) (b := b) (k := k) hR
  have hM1 : MWF (m_give τ k 1 o a b) := mwf_give hR.2.1 (by decide) ho ha hb
  obtain ⟨hW, ⟨rk, hac⟩, hli, -, -, -⟩ := hX
  constructor
  · rintro ⟨s, -, hs, hbit⟩
    cases h1 : x_leads σ k a with
    | true => exact Or.inl rfl
    | false =>
      cases h2 : x_leads σ k b with
      | true => exact Or.inr rfl
      | false =>
        exfalso
        obtain ⟨rk', hac'⟩ := xi_new hR.1 hk ha hb h1 h2
        obtain ⟨n, hn⟩ := ec_fd_sound hM1.2.2.1 hM1.2.2.2.1 hs hbit
        have hn2 := ec_R_congr (fun y u h => (hE y u).mpr h) hn
        have := ec_R_rk hac' hn2
        omega
  · intro h
    refine ⟨k, Nat.zero_le _, hk, ?_⟩
    have hx : (ec_fd (ec_up (xso σ) k 1) (ec_up (xsa σ) k a) (ec_up (xsb σ) k b) (fun _ => 0) k).testBit k = true := by
      rcases h with h | h
      · exact circle_t hac hli hk (Or.inl rfl) (x_leads_t h)
      · exact circle_t hac hli hk (Or.inr rfl) (x_leads_t h)
    -- a short path in the first graph is one in the second
    rcases h with h | h
    · rcases x_leads_t h with e | e
      · subst e
        exact ec_fd_all (n := 0) (by decide) ((hE k k).mp ⟨hk, ec_up_s, Or.inl ec_up_s⟩)
      · obtain ⟨n, hn⟩ := (ec_hang_iff hac hli hk a).mp e
        have h10 := ec_R_n hac hn
        exact ec_fd_all (n := n + 1) (by omega) ⟨a, (hE k a).mp ⟨hk, ec_up_s, Or.inl ec_up_s⟩, ec_R_congr (fun y u h => (hE y u).mp h) (ec_R_new hac hn)⟩
    · rcases x_leads_t h with e | e
      · subst e
        exact ec_fd_all (n := 0) (by decide) ((hE k k).mp ⟨hk, ec_up_s, Or.inr ec_up_s⟩)
      · obtain ⟨n, hn⟩ := (ec_hang_iff hac hli hk b).mp e
        have h10 := ec_R_n hac hn
        exact ec_fd_all (n := n + 1) (by omega) ⟨b, (hE k b).mp ⟨hk, ec_up_s, Or.inr ec_up_s⟩, ec_R_congr (fun y u h => (hE y u).mp h) (ec_R_new hac hn)⟩
theorem rel_wire {σ : XS} {τ : MS} (hR : Rel σ τ) {k o a b : Nat} (hk : k < 12) (ho : o < 9) (ha : a < 12) (hb : b < 12) : (x_wire σ k o a b).1 = (m_wire τ k o a b).1 ∧ Rel (x_wire σ k o a b).2 (m_wire τ k o a b).2 := by
  have hck := rel_ck hR k
  have hcir := rel_circle (o := o) hR hk ha hb ho
  have hM1 : MWF (m_give τ k 1 o a b) := mwf_give hR.2.1 (by decide) ho ha hb
  obtain ⟨g1, g2, g3, g4, g5, g6⟩ := m_give_kp τ k 1 o a b
  obtain ⟨f1, f2, f3, f4, f5, f6⟩ := m_find_kp (m_give τ k 1 o a b)
  unfold x_wire m_wire
  rw [hck]
  cases hc : ec_ck (xso σ) (xck σ) k 12 0 with
  | true =>
    rw [if_pos (Eq.refl true), if_pos (Eq.refl true)]
    exact ⟨Eq.refl (-3 : Int32), hR⟩
  | false =>
    rw [if_neg (show ¬ (false = true) by decide), if_neg (show ¬ (false = true) by decide)]
    by_cases hl : x_leads σ k a = true ∨ x_leads σ k b = true
    · rw [if_pos hl, if_pos (hcir.mpr hl)]
      refine ⟨Eq.refl (-2 : Int32), hR.1, ?_, ?_⟩
      · refine mwf_give (mwf_find hM1) (hR.2.1.1 k hk) (hR.2.1.2.1 k hk) (hR.2.1.2.2.1 k hk) (hR.2.1.2.2.2.1 k hk)
      · intro i hi
        obtain ⟨k1, k2, k3, k4, k5, k6⟩ := m_give_kp (m_find (m_give τ k 1 o a b)) k (mkd τ k) (mop τ k) (ma τ k) (mb τ k)
        obtain ⟨r1, r2, r3, r4⟩ := hR.2.2 i hi
        show mkd (m_give (m_find (m_give τ k 1 o a b)) k (mkd τ k) (mop τ k) (ma τ k) (mb τ k)) i = _ ∧ mvl (m_give (m_find (m_give τ k 1 o a b)) k (mkd τ k) (mop τ k) (ma τ k) (mb τ k)) i = _ ∧ (_ → mop (m_give (m_find (m_give τ k 1 o a b)) k (mkd τ k) (mop τ k) (ma τ k) (mb τ k)) i = _ ∧ ma (m_give (m_find (m_give τ k 1 o a b)) k (mkd τ k) (mop τ k) (ma τ k) (mb τ k)) i = _ ∧ mb (m_give (m_find (m_give τ k 1 o a b)) k (mkd τ k) (mop τ k) (ma τ k) (mb τ k)) i = _) ∧ (_ → mck (m_give (m_find (m_give τ k 1 o a b)) k (mkd τ k) (mop τ k) (ma τ k) (mb τ k)) i = _)
        rw [k1, k2, k3, k4, k5, k6, f1, f2, f3, f4, f5, f6, g1, g2, g3, g4, g5, g6]
        have up2 : ∀ (f : ec_A) (v : Nat), ec_up (ec_up f k v) k (f k) i = f i := by
          intro f v
          by_cases e : i = k
          · rw [e, ec_up_s]
          · rw [ec_up_n e, ec_up_n e]
        rw [up2, up2, up2, up2]
        exact ⟨r1, r2, r3, r4⟩
    · have hl2 : ¬ ec_cir (mon (m_find (m_give τ k 1 o a b))) 12 0 = true := fun h => hl (hcir.mp h)
      rw [if_neg hl, if_neg hl2]
      have h1 : x_leads σ k a = false := by
        cases h : x_leads σ k a with
        | false => rfl
        | true => exact absurd (Or.inl h) hl
      have h2 : x_leads σ k b = false := by
        cases h : x_leads σ k b with
        | false => rfl
        | true => exact absurd (Or.inr h) hl
      obtain ⟨rk, hac⟩ := xi_new hR.1 hk ha hb h1 h2
      obtain ⟨hX', d1, d2, d3, d4, d5, d6⟩ := x_define_ok (σ0 := σ) (o := o) hR.1 hR.1.1 rfl rfl rfl rfl rfl rfl hk (by decide) ho ha hb hac
      have hrel : Rel (x_define σ k 1 o a b) (m_settle (m_find (m_give τ k 1 o a b))) := by
        refine rel_step (k := k) (w := 1) hR hX' (mwf_find hM1) d1 (fun i hi => d6 i (by rw [d1] at hi; exact hi)) ?_ (by rw [f1, g1]) (by rw [f6, g6]) ?_ ?_ (fun h => absurd h (by decide))
        · intro i hi
          rw [d2, d3, d4, d5, ec_up_n hi, ec_up_n hi, ec_up_n hi]
          exact ⟨rfl, rfl, rfl, rfl⟩
        · intro i hi
          rw [f2, f3, f4, f5, g2, g3, g4, g5, ec_up_n hi, ec_up_n hi, ec_up_n hi]
          exact ⟨rfl, rfl, rfl, rfl⟩
        · intro _
          rw [f2, f3, f4, g2, g3, g4, d2, d3, d4, ec_up_s, ec_up_s, ec_up_s, ec_up_s, ec_up_s, ec_up_s]
          exact ⟨rfl, rfl, rfl⟩
      refine ⟨?_, hrel⟩
      exact congrArg nI (hrel.2.2 k hk).2.1.symm
theorem xi_keep {σ : XS} (hX : XI σ) {k w a b : Nat} (hw : w ≠ 1) : ∃ rk, ec_Ac (ec_up (xso σ) k w) (ec_up (xsa σ) k a) (ec_up (xsb σ) k b) rk := by
  obtain ⟨-, ⟨rk, hac⟩, -⟩ := hX
  exact ⟨rk, ac_keep hac hw⟩
theorem rel_register {σ : XS} {τ : MS} (hR : Rel σ τ) {k o a b : Nat} (hk : k < 12) (ho : o < 9) (ha : a < 12) (hb : b < 144) : (x_register σ k o a b).1 = (m_register τ k o a b).1 ∧ Rel (x_register σ k o a b).2 (m_register τ k o a b).2 := by
  have hck := rel_ck hR k
  have hb12 : b / 12 < 12 := by omega
  have hm12 : b % 12 < 12 := by omega
  have hM1 : MWF (m_give τ k 2 o a (b % 12)) := mwf_give hR.2.1 (by decide) ho ha hm12
  have hM2 : MWF (msCk (m_give τ k 2 o a (b % 12)) (ec_up (mck τ) k (b / 12))) := mwf_ck hM1 hb12
  obtain ⟨g1, g2, g3, g4, g5, g6⟩ := m_give_kp τ k 2 o a (b % 12)
  obtain ⟨f1, f2, f3, f4, f5, f6⟩ := m_ck_kp (m_give τ k 2 o a (b % 12)) (ec_up (mck τ) k (b / 12))
  unfold x_register m_register
  rw [hck, (hR.2.2 (b / 12) hb12).1]
  by_cases hc : xso σ (b / 12) ≠ 0 ∨ b / 12 = k ∨ ec_ck (xso σ) (xck σ) k 12 0 = true
  · rw [if_pos hc, if_pos hc]
    exact ⟨Eq.refl (-3 : Int32), hR⟩
  · rw [if_neg hc, if_neg hc]
    obtain ⟨rk, hac⟩ := xi_keep hR.1 (k := k) (w := 2) (a := a) (b := b % 12) (by decide)
    obtain ⟨hX', d1, d2, d3, d4, d5, d6⟩ := x_define_ok (σ := σ) (σ0 := xsCk σ (ec_up (xck σ) k (b / 12))) (o := o) hR.1 (xwf_ck hR.1.1 hb12) rfl rfl rfl rfl rfl rfl hk (by decide) ho ha hm12 hac
    have d5 : xck (x_define (xsCk σ (ec_up (xck σ) k (b / 12))) k 2 o a (b % 12)) = ec_up (xck σ) k (b / 12) := d5
    have hrel : Rel (x_define (xsCk σ (ec_up (xck σ) k (b / 12))) k 2 o a (b % 12)) (m_settle (msCk (m_give τ k 2 o a (b % 12)) (ec_up (mck τ) k (b / 12)))) := by
      refine rel_step (k := k) (w := 2) hR hX' hM2 d1 (fun i hi => d6 i (by rw [d1] at hi; exact hi)) ?_ (by rw [f1, g1]) (by rw [f6, g6]) ?_ ?_ ?_
      · intro i hi
        rw [d2, d3, d4, d5, ec_up_n hi, ec_up_n hi, ec_up_n hi, ec_up_n hi]
        exact ⟨rfl, rfl, rfl, rfl⟩
      · intro i hi
        rw [f2, f3, f4, f5, g2, g3, g4, ec_up_n hi, ec_up_n hi, ec_up_n hi, ec_up_n hi]
        exact ⟨rfl, rfl, rfl, rfl⟩
      · intro _
        rw [f2, f3, f4, g2, g3, g4, d2, d3, d4, ec_up_s, ec_up_s, ec_up_s, ec_up_s, ec_up_s, ec_up_s]
        exact ⟨rfl, rfl, rfl⟩
      · intro _
        rw [f5, d5, ec_up_s, ec_up_s]
    refine ⟨?_, hrel⟩
    exact congrArg nI (hrel.2.2 k hk).2.1.symm
theorem rel_free {σ : XS} {τ : MS} (hR : Rel σ τ) {k : Nat} (hk : k < 12) : (x_free σ k).1 = (m_free τ k).1 ∧ Rel (x_free σ k).2 (m_free τ k).2 := by
  obtain ⟨rk, hac⟩ := xi_keep hR.1 (k := k) (w := 0) (a := k) (b := k) (by decide)
  obtain ⟨hX', d1, d2, d3, d4, d5, d6⟩ := x_define_ok (σ0 := σ) (o := 0) hR.1 hR.1.1 rfl rfl rfl rfl rfl rfl hk (by decide) (by decide) hk hk hac
  have hrel : Rel (x_define σ k 0 0 k k) (m_settle (msG τ (ec_up (mkd τ) k 0) (mop τ) (ma τ) (mb τ))) := by
    refine rel_step (k := k) (w := 0) hR hX' (mwf_kd hR.2.1 (by decide)) d1 (fun i hi => d6 i (by rw [d1] at hi; exact hi)) ?_ rfl rfl ?_ (fun h => absurd rfl h) (fun h => absurd h (by decide))
    · intro i hi
      rw [d2, d3, d4, d5, ec_up_n hi, ec_up_n hi, ec_up_n hi]
      exact ⟨rfl, rfl, rfl, rfl⟩
    · intro i hi
      exact ⟨rfl, rfl, rfl, rfl⟩
  refine ⟨?_, hrel⟩
  show nI (xvl (x_define σ k 0 0 k k) k) = nI (mvl (m_settle (msG τ (ec_up (mkd τ) k 0) (mop τ) (ma τ) (mb τ))) k)
  rw [(hrel.2.2 k hk).2.1]
end
section
/-! change: set and pulse -/
theorem ec_sm_spec {so vl op sa sb ck : ec_A} {k : Nat} (cm0 : ec_A) :
    (∀ r, (ec_lp (ec_sm so vl op sa sb ck k) 12 0 (0, cm0)).1.testBit r = true ↔ r < 12 ∧ (so r = 2 ∧ ck r = k) ∧ ec_fm (op r) (vl (sa r)) (vl (sb r)) ≠ vl r) ∧
    (∀ r, r < 12 → (so r = 2 ∧ ck r = k) → (ec_lp (ec_sm so vl op sa sb ck k) 12 0 (0, cm0)).2 r = ec_fm (op r) (vl (sa r)) (vl (sb r))) := by
  refine ec_lp_inv (ec_sm so vl op sa sb ck k) (fun i z => (∀ r, z.1.testBit r = true ↔ r < i ∧ (so r = 2 ∧ ck r = k) ∧ ec_fm (op r) (vl (sa r)) (vl (sb r)) ≠ vl r) ∧ (∀ r, r < i → (so r = 2 ∧ ck r = k) → z.2 r = ec_fm (op r) (vl (sa r)) (vl (sb r)))) 12 ?_ 12 0 (0, cm0) (by decide) ?_
  · intro i z hi ⟨h1, h2⟩
    unfold ec_sm
    by_cases hg : so i = 2 ∧ ck i = k
    · rw [if_pos hg]
      constructor
      · intro r
        by_cases hf : ec_fm (op i) (vl (sa i)) (vl (sb i)) = vl i
        · rw [if_pos hf]
          show z.1.testBit r = true ↔ _
          rw [h1 r]
          constructor
          · rintro ⟨a, b, c⟩; exact ⟨by omega, b, c⟩
          · rintro ⟨a, b, c⟩
            have e : r ≠ i := fun e => c (by rw [e]; exact hf)
            exact ⟨by omega, b, c⟩
        · rw [if_neg hf]
          show (z.1 ||| 2 ^ i).testBit r = true ↔ _
          rw [Nat.testBit_or, Nat.testBit_two_pow, Bool.or_eq_true, decide_eq_true_eq, h1 r]
          constructor
          · rintro (⟨a, b, c⟩ | e)
            · exact ⟨by omega, b, c⟩
            · subst e; exact ⟨by omega, hg, hf⟩
          · rintro ⟨a, b, c⟩
            by_cases e : i = r
            · exact Or.inr e
            · exact Or.inl ⟨by omega, b, c⟩
      · intro r hr hgr
        show ec_up z.2 i _ r = _
        by_cases e : r = i
        · rw [e, ec_up_s]
        · rw [ec_up_n e]; exact h2 r (by omega) hgr
    · rw [if_neg hg]
      constructor
      · intro r
        rw [h1 r]
        constructor
        · rintro ⟨a, b, c⟩; exact ⟨by omega, b, c⟩
        · rintro ⟨a, b, c⟩
          have e : r ≠ i := fun e => hg (by rw [← e]; exact b)
          exact ⟨by omega, b, c⟩
      · intro r hr hgr
        have e : r ≠ i := fun e => hg (by rw [← e]; exact hgr)
        exact h2 r (by omega) hgr
  · constructor
    · intro r
      show (0 : Nat).testBit r = true ↔ _
      rw [Nat.zero_testBit]
      exact ⟨fun h => (by cases h), fun h => absurd h.1 (Nat.not_lt_zero r)⟩
    · intro r hr
      exact absurd hr (Nat.not_lt_zero r)
theorem ec_p2_spec {so li cm vl0 vl2 : ec_A} {ld k v ch aw : Nat} (hld : ∀ r, ld.testBit r = true → r < 12 ∧ r ≠ k ∧ cm r ≠ vl0 r) (hli : ∀ s, s < 12 → ∀ w, (li s).testBit w = true → so w = 1)
    (a0 : ∀ i, i < 12 → vl2 i = if i = k then v else vl0 i) (b0 : ch = ec_cnt (fun i => decide (vl2 i ≠ vl0 i)) 12) (c0 : ∀ s, s < 12 → vl2 s ≠ vl0 s → ∀ w, (li s).testBit w = true → aw.testBit w = true) (d0 : ∀ w, aw.testBit w = true → so w = 1) :
    (∀ i, i < 12 → (ec_lp (ec_p2 li cm ld) 12 0 (ch, vl2, aw)).2.1 i = if i = k then v else if ld.testBit i = true then cm i else vl0 i) ∧
    (ec_lp (ec_p2 li cm ld) 12 0 (ch, vl2, aw)).1 = ec_cnt (fun i => decide ((ec_lp (ec_p2 li cm ld) 12 0 (ch, vl2, aw)).2.1 i ≠ vl0 i)) 12 ∧
    (∀ s, s < 12 → (ec_lp (ec_p2 li cm ld) 12 0 (ch, vl2, aw)).2.1 s ≠ vl0 s → ∀ w, (li s).testBit w = true → (ec_lp (ec_p2 li cm ld) 12 0 (ch, vl2, aw)).2.2.testBit w = true) ∧
    (∀ w, (ec_lp (ec_p2 li cm ld) 12 0 (ch, vl2, aw)).2.2.testBit w = true → so w = 1) := by
  have key := ec_lp_inv (ec_p2 li cm ld) (fun r z => (∀ i, i < 12 → z.2.1 i = if i = k then v else if i < r ∧ ld.testBit i = true then cm i else vl0 i) ∧ z.1 = ec_cnt (fun i => decide (z.2.1 i ≠ vl0 i)) 12 ∧ (∀ s, s < 12 → z.2.1 s ≠ vl0 s → ∀ w, (li s).testBit w = true → z.2.2.testBit w = true) ∧ (∀ w, z.2.2.testBit w = true → so w = 1)) 12 ?_ 12 0 (ch, vl2, aw) (by decide) ?_
  · obtain ⟨k1, k2, k3, k4⟩ := key
    refine ⟨fun i hi => ?_, k2, k3, k4⟩
    rw [k1 i hi]
    by_cases e : i = k
    · rw [if_pos e, if_pos e]
    · rw [if_neg e, if_neg e]
      by_cases hb : ld.testBit i = true
      · rw [if_pos ⟨hi, hb⟩, if_pos hb]
      · rw [if_neg (fun g => hb g.2), if_neg hb]
  · intro r z hr ⟨h1, h2, h3, h4⟩
    unfold ec_p2
    by_cases hb : ld.testBit r = true
    · rw [if_pos hb]
      obtain ⟨_, hrk, hcm⟩ := hld r hb
      have hzr : z.2.1 r = vl0 r := by
        rw [h1 r hr, if_neg hrk, if_neg (fun g => Nat.lt_irrefl _ g.1)]
      have hne : ¬ z.2.1 r = cm r := fun e => hcm (by rw [← e]; exact hzr)
      rw [if_neg hne]
      refine ⟨fun i hi => ?_, ?_, ?_, ?_⟩
      · show ec_up z.2.1 r (cm r) i = _
        by_cases e : i = r
        · subst e
          rw [ec_up_s, if_neg hrk, if_pos ⟨Nat.lt_succ_self _, hb⟩]
        · rw [ec_up_n e, h1 i hi]
          by_cases ek : i = k
          · rw [if_pos ek, if_pos ek]
          · rw [if_neg ek, if_neg ek]
            by_cases hb2 : ld.testBit i = true
            · by_cases hl : i < r
              · rw [if_pos ⟨hl, hb2⟩, if_pos ⟨by omega, hb2⟩]
              · rw [if_neg (fun g => hl g.1), if_neg (fun g => by have := g.1; omega)]
            · rw [if_neg (fun g => hb2 g.2), if_neg (fun g => hb2 g.2)]
      · show z.1 + 1 = ec_cnt (fun i => decide (ec_up z.2.1 r (cm r) i ≠ vl0 i)) 12
        rw [h2]
        refine (ec_cnt_one (k := r) ?_ hr ?_ ?_).symm
        · intro i _ hi
          simp only [ec_up_n hi]
        · simp [hzr]
        · simp only [ec_up_s]
          simpa using hcm
      · intro s hs hne2 w hw
        show (z.2.2 ||| li r).testBit w = true
        rw [Nat.testBit_or, Bool.or_eq_true]
        by_cases e : s = r
        · subst e; exact Or.inr hw
        · have hne2 : ec_up z.2.1 r (cm r) s ≠ vl0 s := hne2
          rw [ec_up_n e] at hne2
          exact Or.inl (h3 s hs hne2 w hw)
      · intro w hw
        have hw : (z.2.2 ||| li r).testBit w = true := hw
        rw [Nat.testBit_or, Bool.or_eq_true] at hw
        rcases hw with hw | hw
        · exact h4 w hw
        · exact hli r hr w hw
    · rw [if_neg hb]
      refine ⟨fun i hi => ?_, h2, h3, h4⟩
      rw [h1 i hi]
      by_cases ek : i = k
      · rw [if_pos ek, if_pos ek]
      · rw [if_neg ek, if_neg ek]
        by_cases hb2 : ld.testBit i = true
        · have e : i ≠ r := fun e => hb (by rw [← e]; exact hb2)
          by_cases hl : i < r
          · rw [if_pos ⟨hl, hb2⟩, if_pos ⟨by omega, hb2⟩]
          · rw [if_neg (fun g => hl g.1), if_neg (fun g => by have := g.1; omega)]
        · rw [if_neg (fun g => hb2 g.2), if_neg (fun g => hb2 g.2)]
  · refine ⟨fun i hi => ?_, b0, c0, d0⟩
    show vl2 i = _
    rw [a0 i hi]
    by_cases ek : i = k
    · rw [if_pos ek, if_pos ek]
    · rw [if_neg ek, if_neg ek, if_neg (fun g => Nat.not_lt_zero _ g.1)]
theorem ec_cnt_lp (p : Nat → Bool) : ∀ n, ec_lp (fun r c => c + (p r).toNat) n 0 0 = ec_cnt p n := by
  intro n
  exact ec_lp_inv (fun r c => c + (p r).toNat) (fun i c => c = ec_cnt p i) n (fun i c _ h => by rw [h]; rfl) n 0 0 (by omega) rfl
theorem ec_df_cnt (vl bf : ec_A) : ec_lp (ec_df vl bf) 12 0 0 = ec_cnt (fun t => decide (vl t ≠ bf t)) 12 := by
  refine ec_lp_inv (ec_df vl bf) (fun i c => c = ec_cnt (fun t => decide (vl t ≠ bf t)) i) 12 (fun i c _ h => ?_) 12 0 0 (by decide) rfl
  rw [ec_cnt_s, h]
  unfold ec_df
  by_cases e : vl i = bf i
  · rw [if_pos e]; simp [e]
  · rw [if_neg e]; simp [e]
theorem ec_rg_spec {kd ck on : ec_A} {ri : Bool} {k : Nat} (vl : ec_A) :
    (∀ i, i < 12 → (ec_lp (ec_rg kd ck on ri k) 12 0 (0, vl)).2 i = if ri = true ∧ kd i = 2 ∧ ck i = k then on i else vl i) ∧
    (ec_lp (ec_rg kd ck on ri k) 12 0 (0, vl)).1 = ec_cnt (fun i => decide ((ri = true ∧ kd i = 2 ∧ ck i = k) ∧ vl i ≠ on i)) 12 := by
  have key := ec_lp_inv (ec_rg kd ck on ri k) (fun r z => (∀ i, i < 12 → z.2 i = if i < r ∧ (ri = true ∧ kd i = 2 ∧ ck i = k) then on i else vl i) ∧ z.1 = ec_cnt (fun i => decide ((ri = true ∧ kd i = 2 ∧ ck i = k) ∧ vl i ≠ on i)) r) 12 ?_ 12 0 (0, vl) (by decide) ?_
  · obtain ⟨k1, k2⟩ := key
    refine ⟨fun i hi => ?_, k2⟩
    rw [k1 i hi]
    by_cases g : ri = true ∧ kd i = 2 ∧ ck i = k
    · rw [if_pos ⟨hi, g⟩, if_pos g]
    · rw [if_neg (fun q => g q.2), if_neg g]
  · intro r z hr ⟨h1, h2⟩
    have hzr : z.2 r = vl r := by rw [h1 r hr, if_neg (fun g => Nat.lt_irrefl _ g.1)]
    unfold ec_rg
    by_cases g : ri = true ∧ kd r = 2 ∧ ck r = k
    · rw [if_pos g]
      constructor
      · intro i hi
        show ec_up z.2 r (on r) i = _
        by_cases e : i = r
        · subst e
          rw [ec_up_s, if_pos ⟨Nat.lt_succ_self _, g⟩]
        · rw [ec_up_n e, h1 i hi]
          by_cases g2 : ri = true ∧ kd i = 2 ∧ ck i = k
          · by_cases hl : i < r
            · rw [if_pos ⟨hl, g2⟩, if_pos ⟨by omega, g2⟩]
            · rw [if_neg (fun q => hl q.1), if_neg (fun q => by have := q.1; omega)]
          · rw [if_neg (fun q => g2 q.2), if_neg (fun q => g2 q.2)]
      · show (if z.2 r = on r then z.1 else z.1 + 1) = _
        rw [ec_cnt_s, ← h2, hzr]
        by_cases e : vl r = on r
        · have hd : decide ((ri = true ∧ kd r = 2 ∧ ck r = k) ∧ vl r ≠ on r) = false := decide_eq_false (fun q => q.2 e)
          rw [if_pos e, hd]; rfl
        · have hd : decide ((ri = true ∧ kd r = 2 ∧ ck r = k) ∧ vl r ≠ on r) = true := decide_eq_true ⟨g, e⟩
          rw [if_neg e, hd]; rfl
    · rw [if_neg g]
      constructor
      · intro i hi
        rw [h1 i hi]
        by_cases g2 : ri = true ∧ kd i = 2 ∧ ck i = k
        · have e : i ≠ r := fun e => g (by rw [← e]; exact g2)
          by_cases hl : i < r
          · rw [if_pos ⟨hl, g2⟩, if_pos ⟨by omega, g2⟩]
          · rw [if_neg (fun q => hl q.1), if_neg (fun q => by have := q.1; omega)]
        · rw [if_neg (fun q => g2 q.2), if_neg (fun q => g2 q.2)]
      · have hd : decide ((ri = true ∧ kd r = 2 ∧ ck r = k) ∧ vl r ≠ on r) = false := decide_eq_false (fun q => g q.1)
        rw [ec_cnt_s, ← h2, hd]; rfl
  · constructor
    · intro i hi
      show vl i = _
      rw [if_neg (fun g => Nat.not_lt_zero _ g.1)]
    · rfl
theorem m_on_eq (τ : MS) : ∀ i, i < 12 → m_on τ i = m_F τ i := by
  refine ec_lp_inv (ec_onc (mop τ) (ma τ) (mb τ) (mvl τ)) (fun r on => ∀ i, i < r → on i = m_F τ i) 12 ?_ 12 0 (mon τ) (by decide) (fun i h => absurd h (Nat.not_lt_zero i))
  intro r on _ h i hi
  unfold ec_onc
  by_cases e : i = r
  · rw [e, ec_up_s]; rfl
  · rw [ec_up_n e]; exact h i (by omega)
end
section
/-! change, as both systems do it -/
theorem x_c1_kp (σ : XS) (k v : Nat) : xso (x_c1 σ k v) = xso σ ∧ xvl (x_c1 σ k v) = xvl σ ∧ xop (x_c1 σ k v) = xop σ ∧ xsa (x_c1 σ k v) = xsa σ ∧ xsb (x_c1 σ k v) = xsb σ ∧ xck (x_c1 σ k v) = xck σ ∧ xli (x_c1 σ k v) = xli σ ∧ xlv (x_c1 σ k v) = xlv σ ∧ xaw (x_c1 σ k v) = xaw σ := by
  unfold x_c1
  split
  · exact ⟨rfl, rfl, rfl, rfl, rfl, rfl, rfl, rfl, rfl⟩
  · exact ⟨rfl, rfl, rfl, rfl, rfl, rfl, rfl, rfl, rfl⟩
theorem x_put_kp (σ : XS) (k v : Nat) : xso (x_put σ k v) = xso σ ∧ xop (x_put σ k v) = xop σ ∧ xsa (x_put σ k v) = xsa σ ∧ xsb (x_put σ k v) = xsb σ ∧ xck (x_put σ k v) = xck σ ∧ xli (x_put σ k v) = xli σ ∧ xlv (x_put σ k v) = xlv σ ∧ xld (x_put σ k v) = xld σ ∧ xcm (x_put σ k v) = xcm σ := by
  unfold x_put
  split
  · exact ⟨rfl, rfl, rfl, rfl, rfl, rfl, rfl, rfl, rfl⟩
  · exact ⟨rfl, rfl, rfl, rfl, rfl, rfl, rfl, rfl, rfl⟩
theorem x_put_vl (σ : XS) (k v : Nat) : (∀ i, xvl (x_put σ k v) i = if i = k then v else xvl σ i) ∧ xaw (x_put σ k v) = if xvl σ k = v then xaw σ else xaw σ ||| xli σ k := by
  unfold x_put
  by_cases h : xvl σ k = v
  · rw [if_pos h, if_pos h]
    refine ⟨fun i => ?_, rfl⟩
    by_cases e : i = k
    · rw [if_pos e, e, h]
    · rw [if_neg e]
  · rw [if_neg h, if_neg h]
    exact ⟨fun i => rfl, rfl⟩
theorem x_c1_ld {σ : XS} {k v : Nat} : (∀ r, (xld (x_c1 σ k v)).testBit r = true ↔ r < 12 ∧ ((xvl σ k % 2 = 0 ∧ v % 2 = 1) ∧ xso σ r = 2 ∧ xck σ r = k) ∧ x_F σ r ≠ xvl σ r) ∧ (∀ r, (xld (x_c1 σ k v)).testBit r = true → xcm (x_c1 σ k v) r = x_F σ r) := by
  unfold x_c1
  by_cases h : xvl σ k % 2 = 0 ∧ v % 2 = 1
  · rw [if_pos h]
    obtain ⟨h1, h2⟩ := ec_sm_spec (so := xso σ) (vl := xvl σ) (op := xop σ) (sa := xsa σ) (sb := xsb σ) (ck := xck σ) (k := k) (xcm σ)
    have key : ∀ r, (xld (x_sample (xsLC σ 0 (xcm σ)) k)).testBit r = true ↔ r < 12 ∧ (xso σ r = 2 ∧ xck σ r = k) ∧ x_F σ r ≠ xvl σ r := h1
    constructor
    · intro r
      rw [key r]
      exact ⟨fun ⟨a, b, c⟩ => ⟨a, ⟨h, b⟩, c⟩, fun ⟨a, b, c⟩ => ⟨a, b.2, c⟩⟩
    · intro r hr
      have hk := (key r).mp hr
      exact h2 r hk.1 hk.2.1
  · rw [if_neg h]
    constructor
    · intro r
      show (0 : Nat).testBit r = true ↔ _
      rw [Nat.zero_testBit]
      exact ⟨fun e => (by cases e), fun e => absurd e.2.1.1 h⟩
    · intro r hr
      have hr : (0 : Nat).testBit r = true := hr
      rw [Nat.zero_testBit] at hr
      cases hr
/-- the second phase, in one -/
theorem x_c3_ok {σ : XS} (hX : XI σ) {k v : Nat} (hk : k < 12) (hs : xso σ k = 0) :
    (∀ i, i < 12 → (x_c3 σ k v).2.1 i = if i = k then v else if (xld (x_c1 σ k v)).testBit i = true then x_F σ i else xvl σ i) ∧
    (x_c3 σ k v).1 = ec_cnt (fun i => decide ((x_c3 σ k v).2.1 i ≠ xvl σ i)) 12 ∧
    (∀ y, y < 12 → (x_c3 σ k v).2.1 y ≠ xvl σ y → ∀ w, (xli σ y).testBit w = true → (x_c3 σ k v).2.2.testBit w = true) ∧
    (∀ w, (x_c3 σ k v).2.2.testBit w = true → xso σ w = 1) := by
  obtain ⟨l1, l2⟩ := x_c1_ld (σ := σ) (k := k) (v := v)
  obtain ⟨a1, a2, a3, a4, a5, a6, a7, a8, a9⟩ := x_c1_kp σ k v
  obtain ⟨b1, b2, b3, b4, b5, b6, b7, b8, b9⟩ := x_put_kp (x_c1 σ k v) k v
  obtain ⟨bv, ba⟩ := x_put_vl (x_c1 σ k v) k v
  obtain ⟨hW, -, hli, -, haw, -⟩ := hX
  have hliw : ∀ s, s < 12 → ∀ w, (xli σ s).testBit w = true → xso σ w = 1 := fun s hs w hw => ((hli s hs w).mp hw).2.1
  unfold x_c3 x_c2
  rw [b6, b8, b9, a2, a7]
  have bv2 : ∀ i, xvl (x_put (x_c1 σ k v) k v) i = if i = k then v else xvl σ i := by
    intro i
    rw [bv i, a2]
  rw [a2, a7, a9, haw] at ba
  have hld : ∀ r, (xld (x_c1 σ k v)).testBit r = true → r < 12 ∧ r ≠ k ∧ xcm (x_c1 σ k v) r ≠ xvl σ r := by
    intro r hr
    obtain ⟨h1, h2, h3⟩ := (l1 r).mp hr
    refine ⟨h1, fun e => ?_, by rw [l2 r hr]; exact h3⟩
    have h4 := h2.2.1
    rw [e, hs] at h4
    cases h4
  have key := ec_p2_spec (so := xso σ) (li := xli σ) (cm := xcm (x_c1 σ k v)) (vl0 := xvl σ) (vl2 := xvl (x_put (x_c1 σ k v) k v)) (ld := xld (x_c1 σ k v)) (k := k) (v := v) (ch := if xvl σ k = v then 0 else 1) (aw := xaw (x_put (x_c1 σ k v) k v)) hld hliw (fun i _ => bv2 i) ?_ ?_ ?_
  · obtain ⟨k1, k2, k3, k4⟩ := key
    refine ⟨fun i hi => ?_, k2, k3, k4⟩
    rw [k1 i hi]
    by_cases e : i = k
    · rw [if_pos e, if_pos e]
    · rw [if_neg e, if_neg e]
      by_cases hb : (xld (x_c1 σ k v)).testBit i = true
      · rw [if_pos hb, if_pos hb, l2 i hb]
      · rw [if_neg hb, if_neg hb]
  · by_cases h : xvl σ k = v
    · rw [if_pos h]
      refine (ec_cnt_0 (fun i _ => ?_)).symm
      show decide (xvl (x_put (x_c1 σ k v) k v) i ≠ xvl σ i) = false
      rw [bv2 i]
      by_cases e : i = k
      · rw [if_pos e, e, h]; simp
      · rw [if_neg e]; simp
    · rw [if_neg h]
      have h1 := ec_cnt_one (p := fun _ => false) (q := fun i => decide (xvl (x_put (x_c1 σ k v) k v) i ≠ xvl σ i)) (n := 12) (k := k) ?_ hk rfl ?_
      · rw [h1, ec_cnt_0 (fun _ _ => rfl)]
      · intro i _ e
        show false = decide (xvl (x_put (x_c1 σ k v) k v) i ≠ xvl σ i)
        rw [bv2 i, if_neg e]
        simp
      · show decide (xvl (x_put (x_c1 σ k v) k v) k ≠ xvl σ k) = true
        rw [bv2 k, if_pos rfl]
        exact decide_eq_true (fun e => h e.symm)
  · intro y hy hne w hw
    rw [bv2 y] at hne
    by_cases e : y = k
    · rw [if_pos e, e] at hne
      rw [ba, if_neg (fun g => hne g.symm), Nat.testBit_or, ← e, hw, Bool.or_true]
    · rw [if_neg e] at hne
      exact absurd rfl hne
  · intro w hw
    rw [ba] at hw
    by_cases h : xvl σ k = v
    · rw [if_pos h, Nat.zero_testBit] at hw
      cases hw
    · rw [if_neg h, Nat.testBit_or, Nat.zero_testBit, Bool.false_or] at hw
      exact hliw k hk w hw
theorem xVA_all (σ : XS) (v : ec_A) (a : Nat) : xso (xsVA σ v a) = xso σ ∧ xop (xsVA σ v a) = xop σ ∧ xsa (xsVA σ v a) = xsa σ ∧ xsb (xsVA σ v a) = xsb σ ∧ xck (xsVA σ v a) = xck σ ∧ xli (xsVA σ v a) = xli σ ∧ xlv (xsVA σ v a) = xlv σ ∧ xld (xsVA σ v a) = xld σ ∧ xvl (xsVA σ v a) = v ∧ xaw (xsVA σ v a) = a := ⟨rfl, rfl, rfl, rfl, rfl, rfl, rfl, rfl, rfl, rfl⟩
theorem x_c4_kp (σ : XS) (k v : Nat) : xso (x_c4 σ k v) = xso σ ∧ xop (x_c4 σ k v) = xop σ ∧ xsa (x_c4 σ k v) = xsa σ ∧ xsb (x_c4 σ k v) = xsb σ ∧ xck (x_c4 σ k v) = xck σ ∧ xli (x_c4 σ k v) = xli σ ∧ xlv (x_c4 σ k v) = xlv σ ∧ xld (x_c4 σ k v) = xld (x_c1 σ k v) ∧ xvl (x_c4 σ k v) = (x_c3 σ k v).2.1 ∧ xaw (x_c4 σ k v) = (x_c3 σ k v).2.2 := by
  obtain ⟨a1, a2, a3, a4, a5, a6, a7, a8, a9⟩ := x_c1_kp σ k v
  obtain ⟨b1, b2, b3, b4, b5, b6, b7, b8, b9⟩ := x_put_kp (x_c1 σ k v) k v
  have hC : x_c4 σ k v = xsVA (x_c2 σ k v) (x_c3 σ k v).2.1 (x_c3 σ k v).2.2 := rfl
  have hD : x_c2 σ k v = x_put (x_c1 σ k v) k v := rfl
  obtain ⟨v1, v2, v3, v4, v5, v6, v7, v8, v9, v10⟩ := xVA_all (x_c2 σ k v) (x_c3 σ k v).2.1 (x_c3 σ k v).2.2
  rw [← hC, hD] at v1 v2 v3 v4 v5 v6 v7 v8
  rw [← hC] at v9 v10
  exact ⟨v1.trans (b1.trans a1), v2.trans (b2.trans a3), v3.trans (b3.trans a4), v4.trans (b4.trans a5), v5.trans (b5.trans a6), v6.trans (b6.trans a7), v7.trans (b7.trans a8), v8.trans b8, v9, v10⟩
theorem x_settle_kp (σ : XS) : xso (x_settle σ) = xso σ ∧ xop (x_settle σ) = xop σ ∧ xsa (x_settle σ) = xsa σ ∧ xsb (x_settle σ) = xsb σ ∧ xck (x_settle σ) = xck σ ∧ xld (x_settle σ) = xld σ := ⟨rfl, rfl, rfl, rfl, rfl, rfl⟩
theorem x_change_ok {σ : XS} (hX : XI σ) {k v : Nat} (hk : k < 12) (hv : v < 16) (hs : xso σ k = 0) :
    XI (x_change σ k v) ∧ (xso (x_change σ k v) = xso σ ∧ xop (x_change σ k v) = xop σ ∧ xsa (x_change σ k v) = xsa σ ∧ xsb (x_change σ k v) = xsb σ ∧ xck (x_change σ k v) = xck σ ∧ xld (x_change σ k v) = xld (x_c1 σ k v)) ∧
    (∀ i, i < 12 → xso σ i ≠ 1 → xvl (x_change σ k v) i = if i = k then v else if (xld (x_c1 σ k v)).testBit i = true then x_F σ i else xvl σ i) ∧
    x_chN σ k v = ec_cnt (fun i => decide (xvl (x_change σ k v) i ≠ xvl σ i)) 12 := by
  obtain ⟨p1, p2, p3, p4⟩ := x_c3_ok (v := v) hX hk hs
  obtain ⟨l1, l2⟩ := x_c1_ld (σ := σ) (k := k) (v := v)
  have hW4 := xwf_c4 hX.1 hk hv
  obtain ⟨c1, c2, c3, c4, c5, c6, c7, c8, c9, c10⟩ := x_c4_kp σ k v
  have hC0 := hX.2.2.2.2.2
  obtain ⟨hW, ⟨rk, hac⟩, hli, hlv, haw, hC⟩ := hX
  have hwire : ∀ i, i < 12 → xso σ i = 1 → (x_c3 σ k v).2.1 i = xvl σ i := by
    intro i hi h1
    have e : i ≠ k := fun e => by rw [e, hs] at h1; cases h1
    have hb : ¬ (xld (x_c1 σ k v)).testBit i = true := fun hb => by
      have h2 := ((l1 i).mp hb).2.1.2.1
      rw [h1] at h2
      cases h2
    rw [p1 i hi, if_neg e, if_neg hb]
  have key := x_settle_ok (σ := x_c4 σ k v) hW4 (rk := rk) (by rw [c1, c3, c4]; exact hac) (by rw [c1, c3, c4, c6]; exact hli) (by rw [c1, c3, c4, c7]; exact hlv) (by rw [c1, c10]; exact p4) ?_
  · obtain ⟨k1, k2, k3⟩ := key
    obtain ⟨s1, s2, s3, s4, s5, s6⟩ := x_settle_kp (x_c4 σ k v)
    rw [c1] at k2
    rw [c9] at k2 k3
    refine ⟨k1, ⟨s1.trans c1, s2.trans c2, s3.trans c3, s4.trans c4, s5.trans c5, s6.trans c8⟩, fun i hi hne => ?_, ?_⟩
    · exact (k2 i hne).trans (p1 i hi)
    · unfold x_chN x_change
      rw [k3, p2]
      refine (ec_cnt_add (fun i hi => ?_)).symm
      show (decide (xvl (x_settle (x_c4 σ k v)) i ≠ xvl σ i)).toNat = (decide ((x_c3 σ k v).2.1 i ≠ xvl σ i)).toNat + (decide (xvl (x_settle (x_c4 σ k v)) i ≠ (x_c3 σ k v).2.1 i)).toNat
      by_cases h1 : xso σ i = 1
      · rw [hwire i hi h1]
        simp
      · rw [k2 i h1]
        simp
  · intro w hw h1 hb
    rw [c1] at h1
    rw [c10] at hb
    have hq : ∀ y, y < 12 → ec_E (xso σ) (xsa σ) (xsb σ) w y → (x_c3 σ k v).2.1 y = xvl σ y := by
      intro y hy hE
      by_cases e : (x_c3 σ k v).2.1 y = xvl σ y
      · exact e
      · have h2 := p3 y hy e w ((hli y hy w).mpr hE)
        rw [hb] at h2
        cases h2
    rw [c2, c3, c4, c9, hwire w hw h1, hq _ (hW.2.2.2.1 w hw) ⟨hw, h1, Or.inl rfl⟩, hq _ (hW.2.2.2.2.1 w hw) ⟨hw, h1, Or.inr rfl⟩]
    exact hC0 w hw h1
theorem m_change_kp (τ : MS) (k v : Nat) : mbf (m_change τ k v) = m_bf τ := rfl
theorem rel_F {σ : XS} {τ : MS} (hR : Rel σ τ) {i : Nat} (hi : i < 12) (h : xso σ i ≠ 0) : m_F τ i = x_F σ i := by
  obtain ⟨r1, r2, r3, r4⟩ := hR.2.2 i hi
  obtain ⟨r5, r6, r7⟩ := r3 h
  have hW := hR.1.1
  unfold m_F x_F
  rw [r5, r6, r7, (hR.2.2 _ (hW.2.2.2.1 i hi)).2.1, (hR.2.2 _ (hW.2.2.2.2.1 i hi)).2.1]
theorem rel_change {σ : XS} {τ : MS} (hR : Rel σ τ) {k v : Nat} (hk : k < 12) (hv : v < 16) (hs : xso σ k = 0) :
    Rel (x_change σ k v) (m_change τ k v) ∧ x_chN σ k v = m_setN (m_change τ k v) ∧ x_regs (xld (x_change σ k v)) = (m_rg τ k v).1 ∧ xso (x_change σ k v) k = 0 := by
  obtain ⟨hX', ⟨d1, d2, d3, d4, d5, d6⟩, hvl, hN⟩ := x_change_ok hR.1 hk hv hs
  obtain ⟨l1, l2⟩ := x_c1_ld (σ := σ) (k := k) (v := v)
  obtain ⟨g1, g2⟩ := ec_rg_spec (kd := mkd τ) (ck := mck τ) (on := m_on τ) (ri := m_ri τ k v) (k := k) (mvl τ)
  have hvk := (hR.2.2 k hk).2.1
  have hri : m_ri τ k v = true ↔ (xvl σ k % 2 = 0 ∧ v % 2 = 1) := by
    unfold m_ri
    rw [hvk, decide_eq_true_eq]
  have hg : ∀ i, i < 12 → ((m_ri τ k v = true ∧ mkd τ i = 2 ∧ mck τ i = k) ↔ ((xvl σ k % 2 = 0 ∧ v % 2 = 1) ∧ xso σ i = 2 ∧ xck σ i = k)) := by
    intro i hi
    obtain ⟨r1, r2, r3, r4⟩ := hR.2.2 i hi
    rw [hri, r1]
    constructor
    · rintro ⟨h1, h2, h3⟩
      rw [r4 h2] at h3
      exact ⟨h1, h2, h3⟩
    · rintro ⟨h1, h2, h3⟩
      refine ⟨h1, h2, ?_⟩
      rw [r4 h2]
      exact h3
  have hon : ∀ i, i < 12 → xso σ i = 2 → m_on τ i = x_F σ i := by
    intro i hi h2
    rw [m_on_eq τ i hi]
    exact rel_F hR hi (by rw [h2]; decide)
  have hrel : Rel (x_change σ k v) (m_change τ k v) := by
    refine rel_fin hX' (mwf_vl (mwf_on (mwf_bf hR.2.1 _) _) (ec_up_lt (m_rg_lt hR.2.1 k v) hv)) (fun i hi => ?_)
    obtain ⟨r1, r2, r3, r4⟩ := hR.2.2 i hi
    rw [d1, d2, d3, d4, d5]
    refine ⟨r1, fun h1 => ?_, r3, r4⟩
    rw [hvl i hi h1]
    show ec_up (m_rg τ k v).2 k v i = _
    by_cases e : i = k
    · rw [if_pos e, e, ec_up_s]
    · rw [if_neg e, ec_up_n e]
      have g3 : (m_rg τ k v).2 i = if m_ri τ k v = true ∧ mkd τ i = 2 ∧ mck τ i = k then m_on τ i else mvl τ i := g1 i hi
      rw [g3]
      by_cases hc : (xvl σ k % 2 = 0 ∧ v % 2 = 1) ∧ xso σ i = 2 ∧ xck σ i = k
      · rw [if_pos ((hg i hi).mpr hc), hon i hi hc.2.1]
        by_cases hb : (xld (x_c1 σ k v)).testBit i = true
        · rw [if_pos hb]
        · rw [if_neg hb]
          by_cases hf : x_F σ i = xvl σ i
          · exact hf
          · exact absurd ((l1 i).mpr ⟨hi, hc, hf⟩) hb
      · rw [if_neg (fun h => hc ((hg i hi).mp h)), if_neg (fun h => hc ((l1 i).mp h).2.1)]
        exact r2
  refine ⟨hrel, ?_, ?_, by rw [d1]; exact hs⟩
  · rw [hN]
    unfold m_setN
    rw [ec_df_cnt]
    refine ec_cnt_congr (fun i hi => ?_)
    show decide (xvl (x_change σ k v) i ≠ xvl σ i) = decide (mvl (m_change τ k v) i ≠ mbf (m_change τ k v) i)
    rw [(hrel.2.2 i hi).2.1, m_change_kp, m_bf_eq τ i hi, (hR.2.2 i hi).2.1]
  · rw [d6]
    have g4 : (m_rg τ k v).1 = ec_cnt (fun i => decide ((m_ri τ k v = true ∧ mkd τ i = 2 ∧ mck τ i = k) ∧ mvl τ i ≠ m_on τ i)) 12 := g2
    have hx : x_regs (xld (x_c1 σ k v)) = ec_cnt (fun r => (xld (x_c1 σ k v)).testBit r) 12 := ec_cnt_lp (fun r => (xld (x_c1 σ k v)).testBit r) 12
    rw [g4, hx]
    refine ec_cnt_congr (fun i hi => ?_)
    show (xld (x_c1 σ k v)).testBit i = decide ((m_ri τ k v = true ∧ mkd τ i = 2 ∧ mck τ i = k) ∧ mvl τ i ≠ m_on τ i)
    by_cases hc : (xvl σ k % 2 = 0 ∧ v % 2 = 1) ∧ xso σ i = 2 ∧ xck σ i = k
    · by_cases hf : x_F σ i = xvl σ i
      · have hb : ¬ (xld (x_c1 σ k v)).testBit i = true := fun h => ((l1 i).mp h).2.2 hf
        rw [Bool.not_eq_true] at hb
        rw [hb]
        exact Eq.symm (decide_eq_false (fun h => h.2 (by rw [hon i hi hc.2.1, hf]; exact (hR.2.2 i hi).2.1)))
      · rw [(l1 i).mpr ⟨hi, hc, hf⟩]
        exact Eq.symm (decide_eq_true ⟨(hg i hi).mpr hc, fun h => hf (by rw [hon i hi hc.2.1, (hR.2.2 i hi).2.1] at h; exact h.symm)⟩)
    · have hb : ¬ (xld (x_c1 σ k v)).testBit i = true := fun h => hc ((l1 i).mp h).2.1
      rw [Bool.not_eq_true] at hb
      rw [hb]
      exact Eq.symm (decide_eq_false (fun h => hc ((hg i hi).mp h.1)))
theorem rel_set {σ : XS} {τ : MS} (hR : Rel σ τ) {k v : Nat} (hk : k < 12) (hv : v < 16) : (x_set σ k v).1 = (m_set τ k v).1 ∧ Rel (x_set σ k v).2 (m_set τ k v).2 := by
  unfold x_set m_set
  rw [(hR.2.2 k hk).1]
  by_cases hs : xso σ k = 0
  · obtain ⟨h1, h2, h3, h4⟩ := rel_change hR hk hv hs
    rw [if_pos hs, if_pos hs]
    exact ⟨congrArg nI h2, h1⟩
  · rw [if_neg hs, if_neg hs]
    exact ⟨Eq.refl (-3 : Int32), hR⟩
theorem rel_pu {k v f : Nat} (hk : k < 12) (hv : v < 16) (hf : f < 16) : ∀ (n i : Nat) (zx : Nat × XS) (zm : Nat × MS), zx.1 = zm.1 → Rel zx.2 zm.2 → xso zx.2 k = 0 →
    (ec_lp (x_pu k v f) n i zx).1 = (ec_lp (m_pu k v f) n i zm).1 ∧ Rel (ec_lp (x_pu k v f) n i zx).2 (ec_lp (m_pu k v f) n i zm).2 := by
  intro n
  induction n with
  | zero => intro i zx zm h1 h2 h3; exact ⟨h1, h2⟩
  | succ n ih =>
    intro i zx zm h1 h2 h3
    obtain ⟨a1, a2, a3, a4⟩ := rel_change h2 hk hv h3
    obtain ⟨b1, b2, b3, b4⟩ := rel_change a1 hk hf a4
    refine ih (i + 1) (x_pu k v f i zx) (m_pu k v f i zm) ?_ b1 b4
    show zx.1 + x_regs (xld (x_change zx.2 k v)) + x_regs (xld (x_change (x_change zx.2 k v) k f)) = zm.1 + (m_rg zm.2 k v).1 + (m_rg (m_change zm.2 k v) k f).1
    rw [h1, a3, b3]
theorem rel_pulse {σ : XS} {τ : MS} (hR : Rel σ τ) {k v : Nat} (hk : k < 12) (hv : v < 16) (t : Nat) : (x_pulseR σ k v t).1 = (m_pulseR τ k v t).1 ∧ Rel (x_pulseR σ k v t).2 (m_pulseR τ k v t).2 := by
  unfold x_pulseR m_pulseR
  rw [(hR.2.2 k hk).1]
  by_cases hs : xso σ k = 0
  · rw [if_pos hs, if_pos hs]
    unfold x_pulse m_pulse
    rw [(hR.2.2 k hk).2.1]
    obtain ⟨h1, h2⟩ := rel_pu hk hv (hR.1.1.2.1 k hk) t 0 (0, σ) (0, τ) rfl hR hs
    exact ⟨congrArg nI h1, h2⟩
  · rw [if_neg hs, if_neg hs]
    exact ⟨Eq.refl (-3 : Int32), hR⟩
end
section
/-! hanging, depth, the beginning -/
theorem rel_on {σ : XS} {τ : MS} (hR : Rel σ τ) (v : ec_A) : Rel σ (msOn τ v) := ⟨hR.1, mwf_on hR.2.1 v, hR.2.2⟩
theorem rel_E0 {σ : XS} {τ : MS} (hR : Rel σ τ) : ∀ y u, ec_E (xso σ) (xsa σ) (xsb σ) y u ↔ ec_E (mkd τ) (ma τ) (mb τ) y u := by
  intro y u
  unfold ec_E
  constructor
  · rintro ⟨h1, h2, h3⟩
    obtain ⟨r1, r2, r3, r4⟩ := hR.2.2 y h1
    obtain ⟨r5, r6, r7⟩ := r3 (by rw [h2]; decide)
    exact ⟨h1, by rw [r1]; exact h2, by rw [r6, r7]; exact h3⟩
  · rintro ⟨h1, h2, h3⟩
    obtain ⟨r1, r2, r3, r4⟩ := hR.2.2 y h1
    rw [r1] at h2
    obtain ⟨r5, r6, r7⟩ := r3 (by rw [h2]; decide)
    rw [r6, r7] at h3
    exact ⟨h1, h2, h3⟩
theorem rel_ac {σ : XS} {τ : MS} (hR : Rel σ τ) : ∃ rk, ec_Ac (xso σ) (xsa σ) (xsb σ) rk ∧ ec_Ac (mkd τ) (ma τ) (mb τ) rk := by
  obtain ⟨rk, hac⟩ := hR.1.2.1
  refine ⟨rk, hac, hac.1, fun w hw hs => ?_⟩
  obtain ⟨g1, g2, g3, g4⟩ := hR.2.2 w hw
  rw [g1] at hs
  obtain ⟨g5, g6, g7⟩ := g3 (by rw [hs]; decide)
  rw [g6, g7]
  exact hac.2 w hw hs
theorem ec_hs_bit (on : ec_A) (s : Nat) : ∀ w, (ec_lp (ec_hs on s) 12 0 0).testBit w = true ↔ w < 12 ∧ (on w).testBit s = true := by
  refine ec_lp_inv (ec_hs on s) (fun i z => ∀ w, z.testBit w = true ↔ w < i ∧ (on w).testBit s = true) 12 ?_ 12 0 0 (by decide) ?_
  · intro i z _ h w
    unfold ec_hs
    by_cases hb : (on i).testBit s = true
    · rw [if_pos hb, Nat.testBit_or, Nat.testBit_two_pow, Bool.or_eq_true, decide_eq_true_eq, h w]
      constructor
      · rintro (⟨a, b⟩ | e)
        · exact ⟨by omega, b⟩
        · subst e; exact ⟨by omega, hb⟩
      · rintro ⟨a, b⟩
        by_cases e : i = w
        · exact Or.inr e
        · exact Or.inl ⟨by omega, b⟩
    · rw [if_neg hb, h w]
      constructor
      · rintro ⟨a, b⟩; exact ⟨by omega, b⟩
      · rintro ⟨a, b⟩
        have e : w ≠ i := fun e => hb (by rw [← e]; exact b)
        exact ⟨by omega, b⟩
  · intro w
    rw [Nat.zero_testBit]
    exact ⟨fun h => (by cases h), fun h => absurd h.1 (Nat.not_lt_zero w)⟩
theorem rel_hang {σ : XS} {τ : MS} (hR : Rel σ τ) {k : Nat} (hk : k < 12) : x_hang (xli σ) k = m_hang τ k := by
  obtain ⟨rk, hac, hac2⟩ := rel_ac hR
  have hE := rel_E0 hR
  have hM := hR.2.1
  have key : ∀ w, (x_hang (xli σ) k).testBit w = true ↔ (m_hang τ k).testBit w = true := by
    intro w
    unfold m_hang
    rw [ec_hang_iff hac hR.1.2.2.1 hk w, ec_hs_bit, mon_find]
    constructor
    · rintro ⟨n, hn⟩
      have hw := ec_R_lt hn
      exact ⟨hw, (ec_fd_iff hac2 hM.2.2.1 hM.2.2.2.1 hw k).mpr ⟨n, ec_R_congr (fun y u h => (hE y u).mp h) hn⟩⟩
    · rintro ⟨hw, hb⟩
      obtain ⟨n, hn⟩ := (ec_fd_iff hac2 hM.2.2.1 hM.2.2.2.1 hw k).mp hb
      exact ⟨n, ec_R_congr (fun y u h => (hE y u).mpr h) hn⟩
  apply Nat.eq_of_testBit_eq
  intro w
  have hw := key w
  cases h1 : (x_hang (xli σ) k).testBit w with
  | true => exact (hw.mp h1).symm
  | false =>
    cases h2 : (m_hang τ k).testBit w with
    | false => rfl
    | true => rw [hw.mpr h2] at h1; cases h1
theorem x_depth_spec {so lv : ec_A} : (∀ w, w < 12 → so w = 1 → lv w ≤ ec_lp (ec_dp so lv) 12 0 0) ∧ (ec_lp (ec_dp so lv) 12 0 0 = 0 ∨ ∃ w, w < 12 ∧ so w = 1 ∧ ec_lp (ec_dp so lv) 12 0 0 = lv w) := by
  refine ec_lp_inv (ec_dp so lv) (fun i d => (∀ w, w < i → so w = 1 → lv w ≤ d) ∧ (d = 0 ∨ ∃ w, w < 12 ∧ so w = 1 ∧ d = lv w)) 12 ?_ 12 0 0 (by decide) ⟨fun w h => absurd h (Nat.not_lt_zero w), Or.inl rfl⟩
  intro i d hi ⟨h1, h2⟩
  unfold ec_dp
  by_cases h : so i = 1 ∧ d < lv i
  · rw [if_pos h]
    refine ⟨fun w hw hs => ?_, Or.inr ⟨i, hi, h.1, rfl⟩⟩
    by_cases e : w = i
    · rw [e]; exact Nat.le_refl _
    · have h3 := h1 w (by omega) hs
      have h4 := h.2
      omega
  · rw [if_neg h]
    refine ⟨fun w hw hs => ?_, h2⟩
    by_cases e : w = i
    · subst e
      exact Nat.not_lt.mp (fun g => h ⟨hs, g⟩)
    · exact h1 w (by omega) hs
theorem ec_mx_mono {p q p' q' : Nat} (h1 : p ≤ p') (h2 : q ≤ q') : ec_mx p q ≤ ec_mx p' q' := by
  unfold ec_mx
  split <;> split <;> omega
theorem ec_st_le {so sa sb lv v : ec_A} (ha : ∀ i, i < 12 → sa i < 12) (hb : ∀ i, i < 12 → sb i < 12) (hlv : ∀ w, w < 12 → so w = 1 → lv w = ec_mx (lv (sa w)) (lv (sb w))) (h : ∀ w, w < 12 → v w ≤ lv w) {i : Nat} (hi : i < 12) : ∀ w, w < 12 → ec_st so sa sb ec_LF i v w ≤ lv w := by
  intro w hw
  unfold ec_st
  by_cases hs : so i = 1
  · rw [if_pos hs]
    by_cases e : w = i
    · subst e
      rw [ec_up_s, hlv w hw hs]
      exact ec_mx_mono (h _ (ha w hw)) (h _ (hb w hw))
    · rw [ec_up_n e]; exact h w hw
  · rw [if_neg hs]; exact h w hw
theorem ec_st_n {so sa sb v : ec_A} {F : Nat → Nat → Nat → Nat} {i w : Nat} (e : w ≠ i) : ec_st so sa sb F i v w = v w := by
  unfold ec_st
  split
  · rw [ec_up_n e]
  · rfl
theorem ec_d1_round {so sa sb lv : ec_A} {B : Nat} (ha : ∀ i, i < 12 → sa i < 12) (hb : ∀ i, i < 12 → sb i < 12) (hlv : ∀ w, w < 12 → so w = 1 → lv w = ec_mx (lv (sa w)) (lv (sb w))) (hB : ∀ w, w < 12 → lv w ≤ B) {z : Nat × ec_A} (h : (∀ w, w < 12 → z.2 w ≤ lv w) ∧ z.1 ≤ B) :
    ((∀ w, w < 12 → (ec_lp (ec_d1 so sa sb) 12 0 z).2 w ≤ lv w) ∧ (ec_lp (ec_d1 so sa sb) 12 0 z).1 ≤ B) ∧ ∀ w, w < 12 → (ec_lp (ec_d1 so sa sb) 12 0 z).2 w ≤ (ec_lp (ec_d1 so sa sb) 12 0 z).1 := by
  refine ec_lp_inv (ec_d1 so sa sb) (fun i z => ((∀ w, w < 12 → z.2 w ≤ lv w) ∧ z.1 ≤ B) ∧ ∀ w, w < i → z.2 w ≤ z.1) 12 ?_ 12 0 z (by decide) ⟨h, fun w hw => absurd hw (Nat.not_lt_zero w)⟩
  intro i z hi ⟨⟨h1, h2⟩, h3⟩
  have h4 := ec_st_le ha hb hlv h1 hi
  have h5 := Nat.le_trans (h4 i hi) (hB i hi)
  refine ⟨⟨h4, ?_⟩, ?_⟩
  · show (if z.1 < ec_st so sa sb ec_LF i z.2 i then ec_st so sa sb ec_LF i z.2 i else z.1) ≤ B
    split
    · exact h5
    · exact h2
  · intro w hw
    show ec_st so sa sb ec_LF i z.2 w ≤ (if z.1 < ec_st so sa sb ec_LF i z.2 i then ec_st so sa sb ec_LF i z.2 i else z.1)
    by_cases e : w = i
    · rw [e]
      split <;> omega
    · have h6 := h3 w (by omega)
      rw [ec_st_n e]
      split <;> omega
theorem m_dp_ok {so sa sb lv : ec_A} {B : Nat} (ha : ∀ i, i < 12 → sa i < 12) (hb : ∀ i, i < 12 → sb i < 12) (hlv : ∀ w, w < 12 → so w = 1 → lv w = ec_mx (lv (sa w)) (lv (sb w))) (hB : ∀ w, w < 12 → lv w ≤ B) (z : Nat × ec_A) (h : (∀ w, w < 12 → z.2 w ≤ lv w) ∧ z.1 ≤ B) :
    (ec_lp (fun _ z => ec_lp (ec_d1 so sa sb) 12 0 z) 12 0 z).1 ≤ B ∧ (∀ w, w < 12 → (ec_lp (fun _ z => ec_lp (ec_d1 so sa sb) 12 0 z) 12 0 z).2 w ≤ (ec_lp (fun _ z => ec_lp (ec_d1 so sa sb) 12 0 z) 12 0 z).1) := by
  have key := ec_lp_inv (fun (_ : Nat) z => ec_lp (ec_d1 so sa sb) 12 0 z) (fun i z => ((∀ w, w < 12 → z.2 w ≤ lv w) ∧ z.1 ≤ B) ∧ (0 < i → ∀ w, w < 12 → z.2 w ≤ z.1)) 12 ?_ 12 0 z (by decide) ⟨h, fun g => absurd g (Nat.lt_irrefl 0)⟩
  · exact ⟨key.1.2, key.2 (by decide)⟩
  · intro i z _ ⟨h1, _⟩
    obtain ⟨h2, h3⟩ := ec_d1_round ha hb hlv hB h1
    exact ⟨h2, fun _ => h3⟩
theorem m_dp_2 (τ : MS) : (m_dp τ).2 = ec_rds (mkd τ) (ma τ) (mb τ) ec_LF (ec_lp ec_z0 12 0 (mon τ)) := by
  have h1 : ∀ (i : Nat) (z : Nat × ec_A), (ec_lp (ec_d1 (mkd τ) (ma τ) (mb τ)) 12 0 z).2 = ec_rd (mkd τ) (ma τ) (mb τ) ec_LF z.2 := fun _ z => ec_lp_proj (ec_d1 (mkd τ) (ma τ) (mb τ)) (ec_st (mkd τ) (ma τ) (mb τ) ec_LF) (fun z => z.2) (fun _ _ => rfl) 12 0 z
  exact ec_lp_proj (fun (_ : Nat) z => ec_lp (ec_d1 (mkd τ) (ma τ) (mb τ)) 12 0 z) (fun _ v => ec_rd (mkd τ) (ma τ) (mb τ) ec_LF v) (fun z => z.2) h1 12 0 (0, ec_lp ec_z0 12 0 (mon τ))
theorem rel_depth {σ : XS} {τ : MS} (hR : Rel σ τ) : x_depth σ = (m_dp τ).1 := by
  obtain ⟨rk, hac, hac2⟩ := rel_ac hR
  have hM := hR.2.1
  have hW := hR.1.1
  have hlv := hR.1.2.2.2.1
  obtain ⟨f1, f2⟩ := ec_rds_fix (F := ec_LF) hac2 hM.2.2.1 hM.2.2.2.1 (ec_lp ec_z0 12 0 (mon τ))
  rw [← m_dp_2] at f1 f2
  have hlv1 : ∀ w, w < 12 → xso σ w = 1 → xlv σ w = ec_mx (xlv σ (xsa σ w)) (xlv σ (xsb σ w)) := by
    intro w hw hs
    have h := hlv w hw
    rw [if_pos hs] at h
    exact h
  have hlv0 : ∀ w, w < 12 → xso σ w ≠ 1 → xlv σ w = 0 := by
    intro w hw hs
    have h := hlv w hw
    rw [if_neg hs] at h
    exact h
  have hlvm : ∀ w, w < 12 → mkd τ w = 1 → xlv σ w = ec_mx (xlv σ (ma τ w)) (xlv σ (mb τ w)) := by
    intro w hw hs
    obtain ⟨g1, g2, g3, g4⟩ := hR.2.2 w hw
    rw [g1] at hs
    obtain ⟨g5, g6, g7⟩ := g3 (by rw [hs]; decide)
    rw [g6, g7]
    exact hlv1 w hw hs
  have heq : ∀ w, w < 12 → xlv σ w = (m_dp τ).2 w := by
    refine ec_uniq (F := ec_LF) hac2 hM.2.2.1 hM.2.2.2.1 hlvm f1 (fun w hw hs => ?_)
    rw [f2 w hs, ec_z0_0 _ w hw]
    exact hlv0 w hw (by rw [← (hR.2.2 w hw).1]; exact hs)
  obtain ⟨s1, s2⟩ := x_depth_spec (so := xso σ) (lv := xlv σ)
  have hB : ∀ w, w < 12 → xlv σ w ≤ x_depth σ := by
    intro w hw
    by_cases hs : xso σ w = 1
    · exact s1 w hw hs
    · rw [hlv0 w hw hs]; exact Nat.zero_le _
  obtain ⟨b1, b2⟩ := m_dp_ok (so := mkd τ) (sa := ma τ) (sb := mb τ) (lv := xlv σ) (B := x_depth σ) hM.2.2.1 hM.2.2.2.1 hlvm hB (0, ec_lp ec_z0 12 0 (mon τ)) ⟨fun w hw => by
    show ec_lp ec_z0 12 0 (mon τ) w ≤ xlv σ w
    rw [ec_z0_0 _ w hw]; exact Nat.zero_le _, Nat.zero_le _⟩
  have b1 : (m_dp τ).1 ≤ x_depth σ := b1
  have b2 : ∀ w, w < 12 → (m_dp τ).2 w ≤ (m_dp τ).1 := b2
  have s2 : x_depth σ = 0 ∨ ∃ w, w < 12 ∧ xso σ w = 1 ∧ x_depth σ = xlv σ w := s2
  rcases s2 with h | ⟨w, hw, -, h⟩
  · omega
  · have h1 := b2 w hw
    rw [← heq w hw] at h1
    omega
theorem rel_0 : Rel x_0 m_0 := by
  refine ⟨⟨?_, ⟨fun _ => 0, fun _ _ => (by decide : 0 < 12), fun w _ h => ?_⟩, ?_, ?_, rfl, ?_⟩, ?_, ?_⟩
  · exact ⟨fun _ _ => (by decide : 0 < 3), fun _ _ => (by decide : 0 < 16), fun _ _ => (by decide : 0 < 9), fun _ _ => (by decide : 0 < 12), fun _ _ => (by decide : 0 < 12), fun _ _ => (by decide : 0 < 12), fun _ _ => (by decide : 0 < 4096), fun _ _ => (by decide : 0 < 13), (by decide : 0 < 4096), (by decide : 0 < 4096), fun _ _ => (by decide : 0 < 16)⟩
  · have h : (0 : Nat) = 1 := h
    cases h
  · intro s _ w
    show (0 : Nat).testBit w = true ↔ _
    rw [Nat.zero_testBit]
    constructor
    · intro h; cases h
    · rintro ⟨-, h, -⟩
      have h : (0 : Nat) = 1 := h
      cases h
  · intro w _
    show (0 : Nat) = if (0 : Nat) = 1 then _ else 0
    rw [if_neg (by decide)]
  · intro w _ h
    have h : (0 : Nat) = 1 := h
    cases h
  · exact ⟨fun _ _ => (by decide : 0 < 3), fun _ _ => (by decide : 0 < 9), fun _ _ => (by decide : 0 < 12), fun _ _ => (by decide : 0 < 12), fun _ _ => (by decide : 0 < 12), fun _ _ => (by decide : 0 < 16)⟩
  · intro i _
    exact ⟨rfl, rfl, fun _ => ⟨rfl, rfl, rfl⟩, fun _ => rfl⟩
end
section
/-! every call of the law: both systems answer the same number, and stay related -/
set_option maxRecDepth 100000
theorem op_wire (l : Launch) (D : va_G) (G : ec_G) (hx : Nat) (ax : Nat → Nat) (hm : Nat) (am : Nat → Nat) {σ : XS} {τ : MS} (hR : Rel σ τ) (s1 o1 a1 b1 : Int32) : ∃ (r : Int32) (σ1 : XS) (τ1 : MS), Rel σ1 τ1 ∧
    (∀ sz, ec_Mi l yX0_wire cX0_wire 5 (some .int) 3 D G (XW G hx ax) hx [.int s1, .int o1, .int a1, .int b1] σ sz (fun r' σ' => r' = r ∧ σ' = σ1)) ∧
    (∀ sz, ec_Mi l yX1_wire cX1_wire 9 (some .int) 2 D G (MW G hm am) hm [.int s1, .int o1, .int a1, .int b1] τ sz (fun r' τ' => r' = r ∧ τ' = τ1)) := by
  by_cases hg : ec_ov o1 ∧ ec_sg s1 ∧ ec_sg a1 ∧ ec_sg b1
  · obtain ⟨h1, h2, h3, h4⟩ := hg
    obtain ⟨o, ho, rfl⟩ := ec_ov_of h1
    obtain ⟨k, hk, rfl⟩ := ec_sg_of h2
    obtain ⟨a, ha, rfl⟩ := ec_sg_of h3
    obtain ⟨b, hb, rfl⟩ := ec_sg_of h4
    obtain ⟨e, hR1⟩ := rel_wire hR hk ho ha hb
    refine ⟨_, _, _, hR1, fun sz => x_wire_m l D G hx ax sz σ k o a b hk ho ha hb hR.1.1 (fun _ g1 g2 => xi_new hR.1 hk ha hb g1 g2), fun sz => ?_⟩
    rw [e]
    exact m_wire_m l D G hm am sz τ k o a b hk ho ha hb hR.2.1
  · exact ⟨-1, σ, τ, hR, fun sz => x_wire_b l D G hx ax sz σ s1 o1 a1 b1 hg, fun sz => m_wire_b l D G hm am sz τ s1 o1 a1 b1 hg⟩
theorem op_register (l : Launch) (D : va_G) (G : ec_G) (hx : Nat) (ax : Nat → Nat) (hm : Nat) (am : Nat → Nat) {σ : XS} {τ : MS} (hR : Rel σ τ) (s1 o1 a1 b1 : Int32) : ∃ (r : Int32) (σ1 : XS) (τ1 : MS), Rel σ1 τ1 ∧
    (∀ sz, ec_Mi l yX0_register cX0_register 6 (some .int) 3 D G (XW G hx ax) hx [.int s1, .int o1, .int a1, .int b1] σ sz (fun r' σ' => r' = r ∧ σ' = σ1)) ∧
    (∀ sz, ec_Mi l yX1_register cX1_register 6 (some .int) 2 D G (MW G hm am) hm [.int s1, .int o1, .int a1, .int b1] τ sz (fun r' τ' => r' = r ∧ τ' = τ1)) := by
  by_cases hg : ec_ov o1 ∧ ec_sg s1 ∧ ec_sg a1 ∧ ec_bc b1
  · obtain ⟨h1, h2, h3, h4⟩ := hg
    obtain ⟨o, ho, rfl⟩ := ec_ov_of h1
    obtain ⟨k, hk, rfl⟩ := ec_sg_of h2
    obtain ⟨a, ha, rfl⟩ := ec_sg_of h3
    obtain ⟨b, hb, rfl⟩ := ec_bc_of h4
    obtain ⟨e, hR1⟩ := rel_register hR hk ho ha hb
    obtain ⟨rk, hac⟩ := xi_keep hR.1 (k := k) (w := 2) (a := a) (b := b % 12) (by decide)
    refine ⟨_, _, _, hR1, fun sz => x_register_m l D G hx ax sz σ k o a b hk ho ha hb hR.1.1 rk hac, fun sz => ?_⟩
    rw [e]
    exact m_register_m l D G hm am sz τ k o a b hk ho ha hb hR.2.1
  · exact ⟨-1, σ, τ, hR, fun sz => x_register_b l D G hx ax sz σ s1 o1 a1 b1 hg, fun sz => m_register_b l D G hm am sz τ s1 o1 a1 b1 hg⟩
theorem op_free (l : Launch) (D : va_G) (G : ec_G) (hx : Nat) (ax : Nat → Nat) (hm : Nat) (am : Nat → Nat) {σ : XS} {τ : MS} (hR : Rel σ τ) (s1 : Int32) : ∃ (r : Int32) (σ1 : XS) (τ1 : MS), Rel σ1 τ1 ∧
    (∀ sz, ec_Mi l yX0_free cX0_free 2 (some .int) 3 D G (XW G hx ax) hx [.int s1] σ sz (fun r' σ' => r' = r ∧ σ' = σ1)) ∧
    (∀ sz, ec_Mi l yX1_free cX1_free 2 (some .int) 2 D G (MW G hm am) hm [.int s1] τ sz (fun r' τ' => r' = r ∧ τ' = τ1)) := by
  by_cases hg : ec_sg s1
  · obtain ⟨k, hk, rfl⟩ := ec_sg_of hg
    obtain ⟨e, hR1⟩ := rel_free hR hk
    obtain ⟨rk, hac⟩ := xi_keep hR.1 (k := k) (w := 0) (a := k) (b := k) (by decide)
    refine ⟨_, _, _, hR1, fun sz => x_free_m l D G hx ax sz σ k hk hR.1.1 rk hac, fun sz => ?_⟩
    rw [e]
    exact m_free_m l D G hm am sz τ k hk hR.2.1
  · exact ⟨-1, σ, τ, hR, fun sz => x_free_b l D G hx ax sz σ s1 hg, fun sz => m_free_b l D G hm am sz τ s1 hg⟩
theorem op_set (l : Launch) (D : va_G) (G : ec_G) (hx : Nat) (ax : Nat → Nat) (hm : Nat) (am : Nat → Nat) {σ : XS} {τ : MS} (hR : Rel σ τ) (s1 v1 : Int32) : ∃ (r : Int32) (σ1 : XS) (τ1 : MS), Rel σ1 τ1 ∧
    (∀ sz, ec_Mi l yX0_set cX0_set 3 (some .int) 3 D G (XW G hx ax) hx [.int s1, .int v1] σ sz (fun r' σ' => r' = r ∧ σ' = σ1)) ∧
    (∀ sz, ec_Mi l yX1_set cX1_set 6 (some .int) 3 D G (MW G hm am) hm [.int s1, .int v1] τ sz (fun r' τ' => r' = r ∧ τ' = τ1)) := by
  by_cases hg : ec_sg s1 ∧ ec_vv v1
  · obtain ⟨k, hk, rfl⟩ := ec_sg_of hg.1
    obtain ⟨v, hv, rfl⟩ := ec_vv_of hg.2
    obtain ⟨e, hR1⟩ := rel_set hR hk hv
    refine ⟨_, _, _, hR1, fun sz => x_set_m l D G hx ax sz σ k v hk hv hR.1.1, fun sz => ?_⟩
    rw [e]
    exact m_set_m l D G hm am sz τ k v hk hv hR.2.1
  · exact ⟨-1, σ, τ, hR, fun sz => x_set_b l D G hx ax sz σ s1 v1 hg, fun sz => m_set_b l D G hm am sz τ s1 v1 hg⟩
theorem op_pulse (l : Launch) (D : va_G) (G : ec_G) (hx : Nat) (ax : Nat → Nat) (hm : Nat) (am : Nat → Nat) {σ : XS} {τ : MS} (hR : Rel σ τ) (s1 v1 n1 : Int32) : ∃ (r : Int32) (σ1 : XS) (τ1 : MS), Rel σ1 τ1 ∧
    (∀ sz, ec_Mi l yX0_pulse cX0_pulse 8 (some .int) 3 D G (XW G hx ax) hx [.int s1, .int v1, .int n1] σ sz (fun r' σ' => r' = r ∧ σ' = σ1)) ∧
    (∀ sz, ec_Mi l yX1_pulse cX1_pulse 9 (some .int) 3 D G (MW G hm am) hm [.int s1, .int v1, .int n1] τ sz (fun r' τ' => r' = r ∧ τ' = τ1)) := by
  by_cases hg : ec_sg s1 ∧ ec_vv v1
  · obtain ⟨k, hk, rfl⟩ := ec_sg_of hg.1
    obtain ⟨v, hv, rfl⟩ := ec_vv_of hg.2
    obtain ⟨e, hR1⟩ := rel_pulse hR hk hv (ec_tm n1)
    refine ⟨_, _, _, hR1, fun sz => x_pulse_m l D G hx ax sz σ k v n1 hk hv hR.1.1, fun sz => ?_⟩
    rw [e]
    exact m_pulse_m l D G hm am sz τ k v n1 hk hv hR.2.1
  · exact ⟨-1, σ, τ, hR, fun sz => x_pulse_b l D G hx ax sz σ s1 v1 n1 hg, fun sz => m_pulse_b l D G hm am sz τ s1 v1 n1 hg⟩
theorem op_value (l : Launch) (D : va_G) (G : ec_G) (hx : Nat) (ax : Nat → Nat) (hm : Nat) (am : Nat → Nat) {σ : XS} {τ : MS} (hR : Rel σ τ) (s1 : Int32) : ∃ (r : Int32) (σ1 : XS) (τ1 : MS), Rel σ1 τ1 ∧
    (∀ sz, ec_Mi l yX0_value cX0_value 2 (some .int) 1 D G (XW G hx ax) hx [.int s1] σ sz (fun r' σ' => r' = r ∧ σ' = σ1)) ∧
    (∀ sz, ec_Mi l yX1_value cX1_value 2 (some .int) 1 D G (MW G hm am) hm [.int s1] τ sz (fun r' τ' => r' = r ∧ τ' = τ1)) := by
  by_cases hg : ec_sg s1
  · obtain ⟨k, hk, rfl⟩ := ec_sg_of hg
    refine ⟨_, _, _, hR, fun sz => x_value_m l D G hx ax sz σ k hk hR.1.1, fun sz => ?_⟩
    rw [← (hR.2.2 k hk).2.1]
    exact m_value_m l D G hm am sz τ k hk hR.2.1
  · exact ⟨-1, σ, τ, hR, fun sz => x_value_b l D G hx ax sz σ s1 hg, fun sz => m_value_b l D G hm am sz τ s1 hg⟩
theorem op_kind (l : Launch) (D : va_G) (G : ec_G) (hx : Nat) (ax : Nat → Nat) (hm : Nat) (am : Nat → Nat) {σ : XS} {τ : MS} (hR : Rel σ τ) (s1 : Int32) : ∃ (r : Int32) (σ1 : XS) (τ1 : MS), Rel σ1 τ1 ∧
    (∀ sz, ec_Mi l yX0_kind cX0_kind 2 (some .int) 1 D G (XW G hx ax) hx [.int s1] σ sz (fun r' σ' => r' = r ∧ σ' = σ1)) ∧
    (∀ sz, ec_Mi l yX1_kind cX1_kind 2 (some .int) 1 D G (MW G hm am) hm [.int s1] τ sz (fun r' τ' => r' = r ∧ τ' = τ1)) := by
  by_cases hg : ec_sg s1
  · obtain ⟨k, hk, rfl⟩ := ec_sg_of hg
    refine ⟨_, _, _, hR, fun sz => x_kind_m l D G hx ax sz σ k hk hR.1.1, fun sz => ?_⟩
    rw [← (hR.2.2 k hk).1]
    exact m_kind_m l D G hm am sz τ k hk hR.2.1
  · exact ⟨-1, σ, τ, hR, fun sz => x_kind_b l D G hx ax sz σ s1 hg, fun sz => m_kind_b l D G hm am sz τ s1 hg⟩
theorem op_hanging (l : Launch) (D : va_G) (G : ec_G) (hx : Nat) (ax : Nat → Nat) (hm : Nat) (am : Nat → Nat) {σ : XS} {τ : MS} (hR : Rel σ τ) (s1 : Int32) : ∃ (r : Int32) (σ1 : XS) (τ1 : MS), Rel σ1 τ1 ∧
    (∀ sz, ec_Mi l yX0_hanging cX0_hanging 2 (some .int) 1 D G (XW G hx ax) hx [.int s1] σ sz (fun r' σ' => r' = r ∧ σ' = σ1)) ∧
    (∀ sz, ec_Mi l yX1_hanging cX1_hanging 4 (some .int) 1 D G (MW G hm am) hm [.int s1] τ sz (fun r' τ' => r' = r ∧ τ' = τ1)) := by
  by_cases hg : ec_sg s1
  · obtain ⟨k, hk, rfl⟩ := ec_sg_of hg
    refine ⟨_, _, _, rel_on hR (ec_fd (mkd τ) (ma τ) (mb τ) (mon τ)), fun sz => x_hanging_m l D G hx ax sz σ k hk hR.1.1, fun sz => ?_⟩
    rw [rel_hang hR hk]
    exact m_hanging_m l D G hm am sz τ k hk hR.2.1
  · exact ⟨-1, σ, τ, hR, fun sz => x_hanging_b l D G hx ax sz σ s1 hg, fun sz => m_hanging_b l D G hm am sz τ s1 hg⟩
theorem op_depth (l : Launch) (D : va_G) (G : ec_G) (hx : Nat) (ax : Nat → Nat) (hm : Nat) (am : Nat → Nat) {σ : XS} {τ : MS} (hR : Rel σ τ) : ∃ (r : Int32) (σ1 : XS) (τ1 : MS), Rel σ1 τ1 ∧
    (∀ sz, ec_Mi l yX0_depth cX0_depth 3 (some .int) 0 D G (XW G hx ax) hx [] σ sz (fun r' σ' => r' = r ∧ σ' = σ1)) ∧
    (∀ sz, ec_Mi l yX1_depth cX1_depth 5 (some .int) 0 D G (MW G hm am) hm [] τ sz (fun r' τ' => r' = r ∧ τ' = τ1)) := by
  obtain ⟨rk, hac, hac2⟩ := rel_ac hR
  refine ⟨_, _, _, rel_on hR (m_dp τ).2, fun sz => x_depth_m l D G hx ax sz σ hR.1.1, fun sz => ?_⟩
  rw [rel_depth hR]
  exact m_depth_m l D G hm am sz τ hR.2.1 rk hac2
end
section
/-! two worlds side by side; calls of the law -/
set_option maxRecDepth 100000
def ec_ZZ (D : va_G) (G : ec_G) (A : Nat → Prop) (s : State) (wa wb : va_W) (H : Heap) (locs : List Loc) : Prop := ec_Z D G A s wa H locs ∧ ec_Z D G A s wb H locs ∧ ∀ (i j : Nat) (x y : Nat × va_E), wa[i]? = some x → wb[j]? = some y → x.1 ≠ y.1
theorem ec_ZZ_sym {D : va_G} {G : ec_G} {A : Nat → Prop} {s : State} {wa wb : va_W} {H : Heap} {locs : List Loc} (Z : ec_ZZ D G A s wa wb H locs) : ec_ZZ D G A s wb wa H locs := ⟨Z.2.1, Z.1, fun i j x y hx hy h => Z.2.2 j i y x hy hx h.symm⟩
theorem ec_ZZ_app {D : va_G} {G : ec_G} {A : Nat → Prop} {s : State} {wa wb : va_W} {H : Heap} {locs : List Loc} (Z : ec_Z D G A s (wa ++ wb) H locs) : ec_ZZ D G A s wa wb H locs := by
  have ha : ∀ (k : Nat) (q : Nat × va_E), wa[k]? = some q → (wa ++ wb)[k]? = some q := fun k q hk => by
    rw [List.getElem?_append_left (List.getElem?_eq_some_iff.mp hk).1]; exact hk
  have hb : ∀ (k : Nat) (q : Nat × va_E), wb[k]? = some q → (wa ++ wb)[wa.length + k]? = some q := fun k q hk => by
    rw [List.getElem?_append_right (Nat.le_add_right _ _), Nat.add_sub_cancel_left]; exact hk
  obtain ⟨hK, hP, hD, hS⟩ := Z
  refine ⟨⟨hK, fun k q hk => hP k q (ha k q hk), ⟨fun i j x y hx hy h => hD.1 i j x y (ha i x hx) (ha j y hy) h, fun k q hk => hD.2 k q (ha k q hk)⟩, hS⟩, ⟨hK, fun k q hk => hP _ q (hb k q hk), ⟨fun i j x y hx hy h => ?_, fun k q hk => hD.2 _ q (hb k q hk)⟩, hS⟩, fun i j x y hx hy h => ?_⟩
  · have g := hD.1 _ _ x y (hb i x hx) (hb j y hy) h
    omega
  · have g := hD.1 _ _ x y (ha i x hx) (hb j y hy) h
    have g2 := (List.getElem?_eq_some_iff.mp hx).1
    omega
theorem ec_ZZ_nil {D : va_G} {G : ec_G} {A : Nat → Prop} {s : State} {wa : va_W} {H : Heap} {locs : List Loc} (Z : ec_Z D G A s wa H locs) : ec_ZZ D G A s wa [] H locs := ⟨Z, ⟨Z.1, fun k q h => by simp at h, ⟨fun i j x y h => by simp at h, fun k q h => by simp at h⟩, Z.2.2.2⟩, fun i j x y _ h => by simp at h⟩
theorem ec_two {D : va_G} {G : ec_G} {A : Nat → Prop} {s : State} {wa wb w1 : va_W} {H H1 : Heap} {locs locs1 : List Loc} (Z : ec_ZZ D G A s wa wb H locs) (hF : ∀ q, va_A wa H.size q → A q) (hP1 : va_P D vwCl w1 H1) (hD1 : va_D (va_A wa H.size) w1) (hk : ∀ q : Nat, q < H.size → ¬ va_A wa H.size q → H1[q]? = H[q]?) (hS : va_S A s.heap H1 locs1) : ec_ZZ D G A s w1 wb H1 locs1 := by
  obtain ⟨Za, Zb, hx⟩ := Z
  have apart : ∀ (k : Nat) (q : Nat × va_E), wb[k]? = some q → q.1 < H.size ∧ ¬ va_A wa H.size q.1 := by
    intro k q hq
    have hl := (Zb.2.1 k q hq).lt
    refine ⟨hl, fun h => ?_⟩
    rcases h with ⟨k2, e, h⟩ | h
    · exact hx k2 k (q.1, e) q h hq rfl
    · omega
  refine ⟨⟨Za.1, hP1, hD1.weaken (fun _ q _ h => hF q.1 h), hS⟩, ⟨Zb.1, fun k q hq => (Zb.2.1 k q hq).kept (hk q.1 (apart k q hq).1 (apart k q hq).2), Zb.2.2.1, hS⟩, fun i j x y hx1 hy h => ?_⟩
  exact (apart j y hy).2 (by rw [← h]; exact hD1.2 i x hx1)
section EcLaw
variable {p : Program} {l : Launch} {e : Env} {R : Room} {s : State} {m : MethodId} {args : Array Value} {below : List Frame} {meth : Method} {c : Code} {H : Heap} {locs : List Loc} {cells slots : Nat} {Q : State → Prop}
variable {cc : ByteArray} {pc : Nat} {ls : Array Slot} {rest : List Value} {D : va_G} {G : ec_G} {A : Nat → Prop} {nL : Nat} {own : String}
theorem ew_calli {S : Type} {Wf : S → va_W} {wb : va_W} {y : MethodName} {cd : ByteArray} {nL' d n index h : Nat} {ret : Option FieldType} {As : List Value} {σ : S} {post : Int32 → S → Prop} {C : String} {st0 : List Value}
    (F : CallFix p m c cc nL s args lw_all own) (Z : ec_ZZ D G A s (Wf σ) wb H locs) (hA : ∀ q, s.heap.size ≤ q → A q) (hM : ec_Mi l y cd nL' ret d D G Wf h As σ H.size post) (cw : CallW R s args own C index y cd nL' ret (ws_ y cd nL' ret) (ec_rm d) 0 0 n)
    (hrc : ∃ cellB : Cell, H[h]? = some cellB ∧ cellB.vm.isStatics = false ∧ s.vm.findClass C = some cellB.cls) (hn : As.length = n) (hsz : ls.size = nL) (hst : st0 = As.reverse ++ .ref h :: rest) (hrm : (rest.map fun v => v.category).sum ≤ 8) (hd : decode cc pc = .ok (.invokevirtual index, 3)) (hR : cells ≤ R.cells ∧ slots ≤ R.slots)
    (kk : ∀ (r : Int32) (σ' : S) (H1 : Heap) (locs1 : List Loc), post r σ' → ec_ZZ D G A s (Wf σ') wb H1 locs1 → W p l e R s m args below meth c H1 locs1 cells slots Q (F0 m (pc + 3) ls (.int r :: rest))) :
    W p l e R s m args below meth c H locs cells slots Q (F0 m pc ls st0) := by
  have hFc := ec_fr Z.1 hA
  refine va_calli (va_runV (As := As) (rest := rest) F hM cw ⟨ec_blind, hrc, fun U hU hW => ⟨rfl, by rw [hU], by rw [hU]; exact Z.1.2.1, va_K.moved hW.alike Z.1.1, Z.1.2.2.1.weaken (fun _ _ _ _ => trivial)⟩⟩ rfl hn hsz hst (lv_room hrm) hd hR) Z.1.2.2.2 (fun q _ h => hFc q h) hFc (fun r u t H1 locs1 ht hvm hw1 hB hz1 hk1 hS => ?_)
  obtain ⟨hP1, hK1, hD1⟩ := hB
  rw [ht] at hP1
  exact kk r u H1 locs1 hw1 (ec_two Z hFc hP1 hD1 hk1 hS)
theorem ew_ini {Wf : (Nat → Nat) → va_W} {wa wb : va_W} {y : MethodName} {cd : ByteArray} {nL' n index h mc ms : Nat} {rm : Room}
    (F : CallFix p m c cc nL s args lw_all own) (Z : ec_ZZ D G A s wa wb H locs) (hA : ∀ q, s.heap.size ≤ q → A q) (hM : Met l y (ws_ y cd nL' none) rm (va_Pc [.ref h] (ec_Pre D G wa H.size)) (va_Qv (fun _ : Nat → Nat => True) (ec_Pst D G (va_A wa H.size) Wf) (va_A wa H.size)) mc ms (va_A wa H.size))
    (cw : CallB R s args own index y cd nL' none (ws_ y cd nL' none) rm mc ms n ∧ y.name = "<init>" ∧ (Cond.instanceMethod y).before args s = true) (hn : 0 = n) (hsz : ls.size = nL) (hrm : (rest.map fun v => v.category).sum ≤ 8) (hd : decode cc pc = .ok (.invokespecial index, 3)) (hR : cells + mc ≤ R.cells ∧ slots + ms ≤ R.slots)
    (kk : ∀ (ad : Nat → Nat) (H1 : Heap) (locs1 : List Loc), ec_ZZ D G A s (Wf ad) wb H1 locs1 → W p l e R s m args below meth c H1 locs1 (cells + mc) (slots + ms) Q (F0 m (pc + 3) ls rest)) :
    W p l e R s m args below meth c H locs cells slots Q (F0 m pc ls (.ref h :: rest)) := by
  have hFc := ec_fr Z.1 hA
  refine va_callv (va_runI (As := []) (rest := rest) F hM cw ⟨ec_blind, fun U hU hW => ⟨rfl, by rw [hU], by rw [hU]; exact Z.1.2.1, va_K.moved hW.alike Z.1.1, Z.1.2.2.1.weaken (fun _ _ _ _ => trivial)⟩⟩ rfl hn hsz rfl (lv_room hrm) hd hR) Z.1.2.2.2 (fun q _ h => hFc q h) hFc (fun u t H1 locs1 ht hvm hw1 hB hz1 hk1 hS => ?_)
  obtain ⟨hP1, hK1, hD1⟩ := hB
  rw [ht] at hP1
  exact kk u H1 locs1 (ec_two Z hFc hP1 hD1 hk1 hS)
/-- an argument: script[i + j] -/
theorem lw_arg {b L hx hm i j n pc1 pc2 pc3 pc4 : Nat} {xs : Nat → Int32} (F : CallFix p m c cc 4 s args lw_all own) (hX : va_X b L xs s s.heap) (hbl : b < s.heap.size) (hbA : ¬ A b) (hS : va_S A s.heap H locs) (hi : i + 5 ≤ L) (hL : L ≤ 320) (hj : j < 5) (hl : lv_has ls 4 [(0, .ref b), (1, .ref hx), (2, .ref hm), (3, .int (nI i))])
    (d0 : decode cc pc = .ok (.aload_n 0, 1)) (e1 : pc + 1 = pc1) (d1 : decode cc pc1 = .ok (.iload_n 3, 1)) (e2 : pc1 + 1 = pc2) {jc : Int} (d2 : decode cc pc2 = .ok (.iconst jc, 1)) (hjc : Int32.ofInt jc = nI j) (e3 : pc2 + 1 = pc3) (d3 : decode cc pc3 = .ok (.iadd, 1)) (e4 : pc3 + 1 = pc4) (d4 : decode cc pc4 = .ok (.iaload, 1)) (e5 : pc4 + 1 = n)
    (kk : W p l e R s m args below meth c H locs cells slots Q (F0 m n ls (.int (xs (i + j)) :: rest))) : W p l e R s m args below meth c H locs cells slots Q (F0 m pc ls rest) := by
  subst e1 e2 e3 e4 e5
  refine lv_aload_n F.1 F.2.1 d0 rfl (lv_at hl 0 rfl) ?_
  refine lv_iload_n F.1 F.2.1 d1 rfl (lv_at hl 3 rfl) ?_
  refine lv_iconst (v := nI j) F.1 F.2.1 d2 hjc ?_
  refine en_iadd F d3 ?_
  refine va_sld F.1 F.2.1 hX hbl hbA hS (vp_in_nI (by omega) (by omega)) d4 ?_
  rw [nI_clamp (by omega)]
  exact kk
end EcLaw
theorem lw_m15 (a : Int32) : ∃ j, j < 16 ∧ a &&& nI 15 = nI j := by
  refine ⟨(a.toBitVec &&& BitVec.ofNat 32 15).toNat, ?_, ?_⟩
  · rw [BitVec.toNat_and]
    exact Nat.and_lt_two_pow (n := 4) _ (by decide)
  · apply Int32.toBitVec_inj.1
    show a.toBitVec &&& BitVec.ofNat 32 15 = BitVec.ofNat 32 (a.toBitVec &&& BitVec.ofNat 32 15).toNat
    rw [BitVec.ofNat_toNat, BitVec.setWidth_eq]
theorem lw_cmp {i L : Nat} (hi : i ≤ 320) (hL : L ≤ 320) : nI L - nI 5 < nI i ↔ L < i + 5 := by
  rw [Int32.lt_iff_toInt_lt, pk_sub_toInt (by omega) (by decide), nI_toInt (by omega)]
  omega
end
section
/-! the law: a case of its switch, one theorem each; it comes to the loop's end with related systems -/
set_option maxRecDepth 100000
def R_law : String := "EventCircuitLaw"
set_option maxHeartbeats 4000000 in
theorem lw_c0 {p : Program} {l : Launch} {e : Env} {s : State} {m : MethodId} {below : List Frame} {meth : Method} {c : Code} {Q : State → Prop} {D : va_G} {G : ec_G} {A : Nat → Prop} {b L hx hm : Nat} {xs : Nat → Int32} {ax am : Nat → Nat} (F : CallFix p m c cL_law 4 s #[Value.ref b] lw_all R_law) (hA : ∀ q, s.heap.size ≤ q → A q) (hX : va_X b L xs s s.heap) (hbl : b < s.heap.size) (hbA : ¬ A b) (hL : L ≤ 320) {i : Nat} (hi : i + 5 ≤ L) {σ : XS} {τ : MS} (hR : Rel σ τ) {H : Heap} {locs : List Loc} (Z : ec_ZZ D G A s (XW G hx ax σ) (MW G hm am τ) H locs) {ls : Array Slot} (hl : lv_has ls 4 [(0, .ref b), (1, .ref hx), (2, .ref hm), (3, .int (nI i))])
    (kk : ∀ (σ1 : XS) (τ1 : MS) (H1 : Heap) (locs1 : List Loc), Rel σ1 τ1 → ec_ZZ D G A s (XW G hx ax σ1) (MW G hm am τ1) H1 locs1 → W p l e room_1 s m #[Value.ref b] below meth c H1 locs1 19 223 Q (F0 m 371 ls [])) : W p l e room_1 s m #[Value.ref b] below meth c H locs 19 223 Q (F0 m 84 ls []) := by
  obtain ⟨r, σ1, τ1, hR1, hMX, hMM⟩ := op_wire l D G hx ax hm am hR (xs (i + 1)) (xs (i + 2)) (xs (i + 3)) (xs (i + 4))
  refine lv_aload_n F.1 F.2.1 dL_law_84 rfl (lv_at hl 1 rfl) ?_
  refine lw_arg (j := 1) F hX hbl hbA Z.1.2.2.2 hi hL (by decide) hl dL_law_85 rfl dL_law_86 rfl dL_law_87 (by decide) rfl dL_law_88 rfl dL_law_89 rfl ?_
  refine lw_arg (j := 2) F hX hbl hbA Z.1.2.2.2 hi hL (by decide) hl dL_law_90 rfl dL_law_91 rfl dL_law_92 (by decide) rfl dL_law_93 rfl dL_law_94 rfl ?_
  refine lw_arg (j := 3) F hX hbl hbA Z.1.2.2.2 hi hL (by decide) hl dL_law_95 rfl dL_law_96 rfl dL_law_97 (by decide) rfl dL_law_98 rfl dL_law_99 rfl ?_
  refine lw_arg (j := 4) F hX hbl hbA Z.1.2.2.2 hi hL (by decide) hl dL_law_100 rfl dL_law_101 rfl dL_law_102 (by decide) rfl dL_law_103 rfl dL_law_104 rfl ?_
  refine ew_calli (Wf := XW G hx ax) (σ := σ) (As := [.int (xs (i + 1)), .int (xs (i + 2)), .int (xs (i + 3)), .int (xs (i + 4))]) (rest := []) F Z hA (hMX _) (cwV 4 F.2.2.2.2 (lw_V q69 q70 q71 q23 q72) rfl rfl rfl (by decide +kernel) ⟨Nat.le_of_ble_eq_true rfl, Nat.le_of_ble_eq_true rfl⟩) (ex_recv Z.1) rfl hl.1 rfl (Nat.le_of_ble_eq_true rfl) dL_law_105 ⟨Nat.le_of_ble_eq_true rfl, Nat.le_of_ble_eq_true rfl⟩ (fun r5 σ5 H locs hp Z => ?_)
  obtain ⟨e5, f5⟩ := hp
  rw [f5] at Z
  rw [e5]
  have Z := ec_ZZ_sym Z
  clear hMX
  refine lv_aload_n F.1 F.2.1 dL_law_108 rfl (lv_at hl 2 rfl) ?_
  refine lw_arg (j := 1) F hX hbl hbA Z.1.2.2.2 hi hL (by decide) hl dL_law_109 rfl dL_law_110 rfl dL_law_111 (by decide) rfl dL_law_112 rfl dL_law_113 rfl ?_
  refine lw_arg (j := 2) F hX hbl hbA Z.1.2.2.2 hi hL (by decide) hl dL_law_114 rfl dL_law_115 rfl dL_law_116 (by decide) rfl dL_law_117 rfl dL_law_118 rfl ?_
  refine lw_arg (j := 3) F hX hbl hbA Z.1.2.2.2 hi hL (by decide) hl dL_law_119 rfl dL_law_120 rfl dL_law_121 (by decide) rfl dL_law_122 rfl dL_law_123 rfl ?_
  refine lw_arg (j := 4) F hX hbl hbA Z.1.2.2.2 hi hL (by decide) hl dL_law_124 rfl dL_law_125 rfl dL_law_126 (by decide) rfl dL_law_127 rfl dL_law_128 rfl ?_
  refine ew_calli (Wf := MW G hm am) (σ := τ) (As := [.int (xs (i + 1)), .int (xs (i + 2)), .int (xs (i + 3)), .int (xs (i + 4))]) (rest := [.int r]) F Z hA (hMM _) (cwV 4 F.2.2.2.2 (lw_V q188 q189 q190 q24 q191) rfl rfl rfl (by decide +kernel) ⟨Nat.le_of_ble_eq_true rfl, Nat.le_of_ble_eq_true rfl⟩) (em_recv Z.1) rfl hl.1 rfl (Nat.le_of_ble_eq_true rfl) dL_law_129 ⟨Nat.le_of_ble_eq_true rfl, Nat.le_of_ble_eq_true rfl⟩ (fun r6 σ6 H locs hp Z => ?_)
  obtain ⟨e6, f6⟩ := hp
  rw [f6] at Z
  have Z := ec_ZZ_sym Z
  refine lv_icmp_eq (tgt := 371) F.1 F.2.1 dL_law_132 (by decide) (fun c_1 => ?_) (fun c_1 => absurd e6.symm c_1)
  exact kk _ _ _ _ hR1 Z
set_option maxHeartbeats 4000000 in
theorem lw_c1 {p : Program} {l : Launch} {e : Env} {s : State} {m : MethodId} {below : List Frame} {meth : Method} {c : Code} {Q : State → Prop} {D : va_G} {G : ec_G} {A : Nat → Prop} {b L hx hm : Nat} {xs : Nat → Int32} {ax am : Nat → Nat} (F : CallFix p m c cL_law 4 s #[Value.ref b] lw_all R_law) (hA : ∀ q, s.heap.size ≤ q → A q) (hX : va_X b L xs s s.heap) (hbl : b < s.heap.size) (hbA : ¬ A b) (hL : L ≤ 320) {i : Nat} (hi : i + 5 ≤ L) {σ : XS} {τ : MS} (hR : Rel σ τ) {H : Heap} {locs : List Loc} (Z : ec_ZZ D G A s (XW G hx ax σ) (MW G hm am τ) H locs) {ls : Array Slot} (hl : lv_has ls 4 [(0, .ref b), (1, .ref hx), (2, .ref hm), (3, .int (nI i))])
    (kk : ∀ (σ1 : XS) (τ1 : MS) (H1 : Heap) (locs1 : List Loc), Rel σ1 τ1 → ec_ZZ D G A s (XW G hx ax σ1) (MW G hm am τ1) H1 locs1 → W p l e room_1 s m #[Value.ref b] below meth c H1 locs1 19 223 Q (F0 m 371 ls [])) : W p l e room_1 s m #[Value.ref b] below meth c H locs 19 223 Q (F0 m 137 ls []) := by
  obtain ⟨r, σ1, τ1, hR1, hMX, hMM⟩ := op_register l D G hx ax hm am hR (xs (i + 1)) (xs (i + 2)) (xs (i + 3)) (xs (i + 4))
  refine lv_aload_n F.1 F.2.1 dL_law_137 rfl (lv_at hl 1 rfl) ?_
  refine lw_arg (j := 1) F hX hbl hbA Z.1.2.2.2 hi hL (by decide) hl dL_law_138 rfl dL_law_139 rfl dL_law_140 (by decide) rfl dL_law_141 rfl dL_law_142 rfl ?_
  refine lw_arg (j := 2) F hX hbl hbA Z.1.2.2.2 hi hL (by decide) hl dL_law_143 rfl dL_law_144 rfl dL_law_145 (by decide) rfl dL_law_146 rfl dL_law_147 rfl ?_
  refine lw_arg (j := 3) F hX hbl hbA Z.1.2.2.2 hi hL (by decide) hl dL_law_148 rfl dL_law_149 rfl dL_law_150 (by decide) rfl dL_law_151 rfl dL_law_152 rfl ?_
  refine lw_arg (j := 4) F hX hbl hbA Z.1.2.2.2 hi hL (by decide) hl dL_law_153 rfl dL_law_154 rfl dL_law_155 (by decide) rfl dL_law_156 rfl dL_law_157 rfl ?_
  refine ew_calli (Wf := XW G hx ax) (σ := σ) (As := [.int (xs (i + 1)), .int (xs (i + 2)), .int (xs (i + 3)), .int (xs (i + 4))]) (rest := []) F Z hA (hMX _) (cwV 4 F.2.2.2.2 (lw_V q113 q114 q115 q23 q116) rfl rfl rfl (by decide +kernel) ⟨Nat.le_of_ble_eq_true rfl, Nat.le_of_ble_eq_true rfl⟩) (ex_recv Z.1) rfl hl.1 rfl (Nat.le_of_ble_eq_true rfl) dL_law_158 ⟨Nat.le_of_ble_eq_true rfl, Nat.le_of_ble_eq_true rfl⟩ (fun r5 σ5 H locs hp Z => ?_)
  obtain ⟨e5, f5⟩ := hp
  rw [f5] at Z
  rw [e5]
  have Z := ec_ZZ_sym Z
  clear hMX
  refine lv_aload_n F.1 F.2.1 dL_law_161 rfl (lv_at hl 2 rfl) ?_
  refine lw_arg (j := 1) F hX hbl hbA Z.1.2.2.2 hi hL (by decide) hl dL_law_162 rfl dL_law_163 rfl dL_law_164 (by decide) rfl dL_law_165 rfl dL_law_166 rfl ?_
  refine lw_arg (j := 2) F hX hbl hbA Z.1.2.2.2 hi hL (by decide) hl dL_law_167 rfl dL_law_168 rfl dL_law_169 (by decide) rfl dL_law_170 rfl dL_law_171 rfl ?_
  refine lw_arg (j := 3) F hX hbl hbA Z.1.2.2.2 hi hL (by decide) hl dL_law_172 rfl dL_law_173 rfl dL_law_174 (by decide) rfl dL_law_175 rfl dL_law_176 rfl ?_
  refine lw_arg (j := 4) F hX hbl hbA Z.1.2.2.2 hi hL (by decide) hl dL_law_177 rfl dL_law_178 rfl dL_law_179 (by decide) rfl dL_law_180 rfl dL_law_181 rfl ?_
  refine ew_calli (Wf := MW G hm am) (σ := τ) (As := [.int (xs (i + 1)), .int (xs (i + 2)), .int (xs (i + 3)), .int (xs (i + 4))]) (rest := [.int r]) F Z hA (hMM _) (cwV 4 F.2.2.2.2 (lw_V q220 q221 q222 q24 q223) rfl rfl rfl (by decide +kernel) ⟨Nat.le_of_ble_eq_true rfl, Nat.le_of_ble_eq_true rfl⟩) (em_recv Z.1) rfl hl.1 rfl (Nat.le_of_ble_eq_true rfl) dL_law_182 ⟨Nat.le_of_ble_eq_true rfl, Nat.le_of_ble_eq_true rfl⟩ (fun r6 σ6 H locs hp Z => ?_)
  obtain ⟨e6, f6⟩ := hp
  rw [f6] at Z
  have Z := ec_ZZ_sym Z
  refine lv_icmp_eq (tgt := 371) F.1 F.2.1 dL_law_185 (by decide) (fun c_1 => ?_) (fun c_1 => absurd e6.symm c_1)
  exact kk _ _ _ _ hR1 Z
set_option maxHeartbeats 4000000 in
theorem lw_c2 {p : Program} {l : Launch} {e : Env} {s : State} {m : MethodId} {below : List Frame} {meth : Method} {c : Code} {Q : State → Prop} {D : va_G} {G : ec_G} {A : Nat → Prop} {b L hx hm : Nat} {xs : Nat → Int32} {ax am : Nat → Nat} (F : CallFix p m c cL_law 4 s #[Value.ref b] lw_all R_law) (hA : ∀ q, s.heap.size ≤ q → A q) (hX : va_X b L xs s s.heap) (hbl : b < s.heap.size) (hbA : ¬ A b) (hL : L ≤ 320) {i : Nat} (hi : i + 5 ≤ L) {σ : XS} {τ : MS} (hR : Rel σ τ) {H : Heap} {locs : List Loc} (Z : ec_ZZ D G A s (XW G hx ax σ) (MW G hm am τ) H locs) {ls : Array Slot} (hl : lv_has ls 4 [(0, .ref b), (1, .ref hx), (2, .ref hm), (3, .int (nI i))])
    (kk : ∀ (σ1 : XS) (τ1 : MS) (H1 : Heap) (locs1 : List Loc), Rel σ1 τ1 → ec_ZZ D G A s (XW G hx ax σ1) (MW G hm am τ1) H1 locs1 → W p l e room_1 s m #[Value.ref b] below meth c H1 locs1 19 223 Q (F0 m 371 ls [])) : W p l e room_1 s m #[Value.ref b] below meth c H locs 19 223 Q (F0 m 190 ls []) := by
  obtain ⟨r, σ1, τ1, hR1, hMX, hMM⟩ := op_free l D G hx ax hm am hR (xs (i + 1))
  refine lv_aload_n F.1 F.2.1 dL_law_190 rfl (lv_at hl 1 rfl) ?_
  refine lw_arg (j := 1) F hX hbl hbA Z.1.2.2.2 hi hL (by decide) hl dL_law_191 rfl dL_law_192 rfl dL_law_193 (by decide) rfl dL_law_194 rfl dL_law_195 rfl ?_
  refine ew_calli (Wf := XW G hx ax) (σ := σ) (As := [.int (xs (i + 1))]) (rest := []) F Z hA (hMX _) (cwV 1 F.2.2.2.2 (lw_V q117 q118 q119 q23 q120) rfl rfl rfl (by decide +kernel) ⟨Nat.le_of_ble_eq_true rfl, Nat.le_of_ble_eq_true rfl⟩) (ex_recv Z.1) rfl hl.1 rfl (Nat.le_of_ble_eq_true rfl) dL_law_196 ⟨Nat.le_of_ble_eq_true rfl, Nat.le_of_ble_eq_true rfl⟩ (fun r5 σ5 H locs hp Z => ?_)
  obtain ⟨e5, f5⟩ := hp
  rw [f5] at Z
  rw [e5]
  have Z := ec_ZZ_sym Z
  clear hMX
  refine lv_aload_n F.1 F.2.1 dL_law_199 rfl (lv_at hl 2 rfl) ?_
  refine lw_arg (j := 1) F hX hbl hbA Z.1.2.2.2 hi hL (by decide) hl dL_law_200 rfl dL_law_201 rfl dL_law_202 (by decide) rfl dL_law_203 rfl dL_law_204 rfl ?_
  refine ew_calli (Wf := MW G hm am) (σ := τ) (As := [.int (xs (i + 1))]) (rest := [.int r]) F Z hA (hMM _) (cwV 1 F.2.2.2.2 (lw_V q224 q225 q226 q24 q227) rfl rfl rfl (by decide +kernel) ⟨Nat.le_of_ble_eq_true rfl, Nat.le_of_ble_eq_true rfl⟩) (em_recv Z.1) rfl hl.1 rfl (Nat.le_of_ble_eq_true rfl) dL_law_205 ⟨Nat.le_of_ble_eq_true rfl, Nat.le_of_ble_eq_true rfl⟩ (fun r6 σ6 H locs hp Z => ?_)
  obtain ⟨e6, f6⟩ := hp
  rw [f6] at Z
  have Z := ec_ZZ_sym Z
  refine lv_icmp_eq (tgt := 371) F.1 F.2.1 dL_law_208 (by decide) (fun c_1 => ?_) (fun c_1 => absurd e6.symm c_1)
  exact kk _ _ _ _ hR1 Z
set_option maxHeartbeats 4000000 in
theorem lw_c3 {p : Program} {l : Launch} {e : Env} {s : State} {m : MethodId} {below : List Frame} {meth : Method} {c : Code} {Q : State → Prop} {D : va_G} {G : ec_G} {A : Nat → Prop} {b L hx hm : Nat} {xs : Nat → Int32} {ax am : Nat → Nat} (F : CallFix p m c cL_law 4 s #[Value.ref b] lw_all R_law) (hA : ∀ q, s.heap.size ≤ q → A q) (hX : va_X b L xs s s.heap) (hbl : b < s.heap.size) (hbA : ¬ A b) (hL : L ≤ 320) {i : Nat} (hi : i + 5 ≤ L) {σ : XS} {τ : MS} (hR : Rel σ τ) {H : Heap} {locs : List Loc} (Z : ec_ZZ D G A s (XW G hx ax σ) (MW G hm am τ) H locs) {ls : Array Slot} (hl : lv_has ls 4 [(0, .ref b), (1, .ref hx), (2, .ref hm), (3, .int (nI i))])
    (kk : ∀ (σ1 : XS) (τ1 : MS) (H1 : Heap) (locs1 : List Loc), Rel σ1 τ1 → ec_ZZ D G A s (XW G hx ax σ1) (MW G hm am τ1) H1 locs1 → W p l e room_1 s m #[Value.ref b] below meth c H1 locs1 19 223 Q (F0 m 371 ls [])) : W p l e room_1 s m #[Value.ref b] below meth c H locs 19 223 Q (F0 m 213 ls []) := by
  obtain ⟨r, σ1, τ1, hR1, hMX, hMM⟩ := op_set l D G hx ax hm am hR (xs (i + 1)) (xs (i + 2))
  refine lv_aload_n F.1 F.2.1 dL_law_213 rfl (lv_at hl 1 rfl) ?_
  refine lw_arg (j := 1) F hX hbl hbA Z.1.2.2.2 hi hL (by decide) hl dL_law_214 rfl dL_law_215 rfl dL_law_216 (by decide) rfl dL_law_217 rfl dL_law_218 rfl ?_
  refine lw_arg (j := 2) F hX hbl hbA Z.1.2.2.2 hi hL (by decide) hl dL_law_219 rfl dL_law_220 rfl dL_law_221 (by decide) rfl dL_law_222 rfl dL_law_223 rfl ?_
  refine ew_calli (Wf := XW G hx ax) (σ := σ) (As := [.int (xs (i + 1)), .int (xs (i + 2))]) (rest := []) F Z hA (hMX _) (cwV 2 F.2.2.2.2 (lw_V q121 q122 q123 q23 q124) rfl rfl rfl (by decide +kernel) ⟨Nat.le_of_ble_eq_true rfl, Nat.le_of_ble_eq_true rfl⟩) (ex_recv Z.1) rfl hl.1 rfl (Nat.le_of_ble_eq_true rfl) dL_law_224 ⟨Nat.le_of_ble_eq_true rfl, Nat.le_of_ble_eq_true rfl⟩ (fun r5 σ5 H locs hp Z => ?_)
  obtain ⟨e5, f5⟩ := hp
  rw [f5] at Z
  rw [e5]
  have Z := ec_ZZ_sym Z
  clear hMX
  refine lv_aload_n F.1 F.2.1 dL_law_227 rfl (lv_at hl 2 rfl) ?_
  refine lw_arg (j := 1) F hX hbl hbA Z.1.2.2.2 hi hL (by decide) hl dL_law_228 rfl dL_law_229 rfl dL_law_230 (by decide) rfl dL_law_231 rfl dL_law_232 rfl ?_
  refine lw_arg (j := 2) F hX hbl hbA Z.1.2.2.2 hi hL (by decide) hl dL_law_233 rfl dL_law_234 rfl dL_law_235 (by decide) rfl dL_law_236 rfl dL_law_237 rfl ?_
  refine ew_calli (Wf := MW G hm am) (σ := τ) (As := [.int (xs (i + 1)), .int (xs (i + 2))]) (rest := [.int r]) F Z hA (hMM _) (cwV 2 F.2.2.2.2 (lw_V q228 q229 q230 q24 q231) rfl rfl rfl (by decide +kernel) ⟨Nat.le_of_ble_eq_true rfl, Nat.le_of_ble_eq_true rfl⟩) (em_recv Z.1) rfl hl.1 rfl (Nat.le_of_ble_eq_true rfl) dL_law_238 ⟨Nat.le_of_ble_eq_true rfl, Nat.le_of_ble_eq_true rfl⟩ (fun r6 σ6 H locs hp Z => ?_)
  obtain ⟨e6, f6⟩ := hp
  rw [f6] at Z
  have Z := ec_ZZ_sym Z
  refine lv_icmp_eq (tgt := 371) F.1 F.2.1 dL_law_241 (by decide) (fun c_1 => ?_) (fun c_1 => absurd e6.symm c_1)
  exact kk _ _ _ _ hR1 Z
set_option maxHeartbeats 4000000 in
theorem lw_c4 {p : Program} {l : Launch} {e : Env} {s : State} {m : MethodId} {below : List Frame} {meth : Method} {c : Code} {Q : State → Prop} {D : va_G} {G : ec_G} {A : Nat → Prop} {b L hx hm : Nat} {xs : Nat → Int32} {ax am : Nat → Nat} (F : CallFix p m c cL_law 4 s #[Value.ref b] lw_all R_law) (hA : ∀ q, s.heap.size ≤ q → A q) (hX : va_X b L xs s s.heap) (hbl : b < s.heap.size) (hbA : ¬ A b) (hL : L ≤ 320) {i : Nat} (hi : i + 5 ≤ L) {σ : XS} {τ : MS} (hR : Rel σ τ) {H : Heap} {locs : List Loc} (Z : ec_ZZ D G A s (XW G hx ax σ) (MW G hm am τ) H locs) {ls : Array Slot} (hl : lv_has ls 4 [(0, .ref b), (1, .ref hx), (2, .ref hm), (3, .int (nI i))])
    (kk : ∀ (σ1 : XS) (τ1 : MS) (H1 : Heap) (locs1 : List Loc), Rel σ1 τ1 → ec_ZZ D G A s (XW G hx ax σ1) (MW G hm am τ1) H1 locs1 → W p l e room_1 s m #[Value.ref b] below meth c H1 locs1 19 223 Q (F0 m 371 ls [])) : W p l e room_1 s m #[Value.ref b] below meth c H locs 19 223 Q (F0 m 246 ls []) := by
  obtain ⟨r, σ1, τ1, hR1, hMX, hMM⟩ := op_pulse l D G hx ax hm am hR (xs (i + 1)) (xs (i + 2)) (xs (i + 3))
  refine lv_aload_n F.1 F.2.1 dL_law_246 rfl (lv_at hl 1 rfl) ?_
  refine lw_arg (j := 1) F hX hbl hbA Z.1.2.2.2 hi hL (by decide) hl dL_law_247 rfl dL_law_248 rfl dL_law_249 (by decide) rfl dL_law_250 rfl dL_law_251 rfl ?_
  refine lw_arg (j := 2) F hX hbl hbA Z.1.2.2.2 hi hL (by decide) hl dL_law_252 rfl dL_law_253 rfl dL_law_254 (by decide) rfl dL_law_255 rfl dL_law_256 rfl ?_
  refine lw_arg (j := 3) F hX hbl hbA Z.1.2.2.2 hi hL (by decide) hl dL_law_257 rfl dL_law_258 rfl dL_law_259 (by decide) rfl dL_law_260 rfl dL_law_261 rfl ?_
  refine ew_calli (Wf := XW G hx ax) (σ := σ) (As := [.int (xs (i + 1)), .int (xs (i + 2)), .int (xs (i + 3))]) (rest := []) F Z hA (hMX _) (cwV 3 F.2.2.2.2 (lw_V q133 q134 q135 q23 q136) rfl rfl rfl (by decide +kernel) ⟨Nat.le_of_ble_eq_true rfl, Nat.le_of_ble_eq_true rfl⟩) (ex_recv Z.1) rfl hl.1 rfl (Nat.le_of_ble_eq_true rfl) dL_law_262 ⟨Nat.le_of_ble_eq_true rfl, Nat.le_of_ble_eq_true rfl⟩ (fun r5 σ5 H locs hp Z => ?_)
  obtain ⟨e5, f5⟩ := hp
  rw [f5] at Z
  rw [e5]
  have Z := ec_ZZ_sym Z
  clear hMX
  refine lv_aload_n F.1 F.2.1 dL_law_265 rfl (lv_at hl 2 rfl) ?_
  refine lw_arg (j := 1) F hX hbl hbA Z.1.2.2.2 hi hL (by decide) hl dL_law_266 rfl dL_law_267 rfl dL_law_268 (by decide) rfl dL_law_269 rfl dL_law_270 rfl ?_
  refine lw_arg (j := 2) F hX hbl hbA Z.1.2.2.2 hi hL (by decide) hl dL_law_271 rfl dL_law_272 rfl dL_law_273 (by decide) rfl dL_law_274 rfl dL_law_275 rfl ?_
  refine lw_arg (j := 3) F hX hbl hbA Z.1.2.2.2 hi hL (by decide) hl dL_law_276 rfl dL_law_277 rfl dL_law_278 (by decide) rfl dL_law_279 rfl dL_law_280 rfl ?_
  refine ew_calli (Wf := MW G hm am) (σ := τ) (As := [.int (xs (i + 1)), .int (xs (i + 2)), .int (xs (i + 3))]) (rest := [.int r]) F Z hA (hMM _) (cwV 3 F.2.2.2.2 (lw_V q240 q241 q242 q24 q243) rfl rfl rfl (by decide +kernel) ⟨Nat.le_of_ble_eq_true rfl, Nat.le_of_ble_eq_true rfl⟩) (em_recv Z.1) rfl hl.1 rfl (Nat.le_of_ble_eq_true rfl) dL_law_281 ⟨Nat.le_of_ble_eq_true rfl, Nat.le_of_ble_eq_true rfl⟩ (fun r6 σ6 H locs hp Z => ?_)
  obtain ⟨e6, f6⟩ := hp
  rw [f6] at Z
  have Z := ec_ZZ_sym Z
  refine lv_icmp_eq (tgt := 371) F.1 F.2.1 dL_law_284 (by decide) (fun c_1 => ?_) (fun c_1 => absurd e6.symm c_1)
  exact kk _ _ _ _ hR1 Z
set_option maxHeartbeats 4000000 in
theorem lw_c5 {p : Program} {l : Launch} {e : Env} {s : State} {m : MethodId} {below : List Frame} {meth : Method} {c : Code} {Q : State → Prop} {D : va_G} {G : ec_G} {A : Nat → Prop} {b L hx hm : Nat} {xs : Nat → Int32} {ax am : Nat → Nat} (F : CallFix p m c cL_law 4 s #[Value.ref b] lw_all R_law) (hA : ∀ q, s.heap.size ≤ q → A q) (hX : va_X b L xs s s.heap) (hbl : b < s.heap.size) (hbA : ¬ A b) (hL : L ≤ 320) {i : Nat} (hi : i + 5 ≤ L) {σ : XS} {τ : MS} (hR : Rel σ τ) {H : Heap} {locs : List Loc} (Z : ec_ZZ D G A s (XW G hx ax σ) (MW G hm am τ) H locs) {ls : Array Slot} (hl : lv_has ls 4 [(0, .ref b), (1, .ref hx), (2, .ref hm), (3, .int (nI i))])
    (kk : ∀ (σ1 : XS) (τ1 : MS) (H1 : Heap) (locs1 : List Loc), Rel σ1 τ1 → ec_ZZ D G A s (XW G hx ax σ1) (MW G hm am τ1) H1 locs1 → W p l e room_1 s m #[Value.ref b] below meth c H1 locs1 19 223 Q (F0 m 371 ls [])) : W p l e room_1 s m #[Value.ref b] below meth c H locs 19 223 Q (F0 m 289 ls []) := by
  obtain ⟨r, σ1, τ1, hR1, hMX, hMM⟩ := op_value l D G hx ax hm am hR (xs (i + 1))
  refine lv_aload_n F.1 F.2.1 dL_law_289 rfl (lv_at hl 1 rfl) ?_
  refine lw_arg (j := 1) F hX hbl hbA Z.1.2.2.2 hi hL (by decide) hl dL_law_290 rfl dL_law_291 rfl dL_law_292 (by decide) rfl dL_law_293 rfl dL_law_294 rfl ?_
  refine ew_calli (Wf := XW G hx ax) (σ := σ) (As := [.int (xs (i + 1))]) (rest := []) F Z hA (hMX _) (cwV 1 F.2.2.2.2 (lw_V q141 q142 q143 q23 q144) rfl rfl rfl (by decide +kernel) ⟨Nat.le_of_ble_eq_true rfl, Nat.le_of_ble_eq_true rfl⟩) (ex_recv Z.1) rfl hl.1 rfl (Nat.le_of_ble_eq_true rfl) dL_law_295 ⟨Nat.le_of_ble_eq_true rfl, Nat.le_of_ble_eq_true rfl⟩ (fun r5 σ5 H locs hp Z => ?_)
  obtain ⟨e5, f5⟩ := hp
  rw [f5] at Z
  rw [e5]
  have Z := ec_ZZ_sym Z
  clear hMX
  refine lv_aload_n F.1 F.2.1 dL_law_298 rfl (lv_at hl 2 rfl) ?_
  refine lw_arg (j := 1) F hX hbl hbA Z.1.2.2.2 hi hL (by decide) hl dL_law_299 rfl dL_law_300 rfl dL_law_301 (by decide) rfl dL_law_302 rfl dL_law_303 rfl ?_
  refine ew_calli (Wf := MW G hm am) (σ := τ) (As := [.int (xs (i + 1))]) (rest := [.int r]) F Z hA (hMM _) (cwV 1 F.2.2.2.2 (lw_V q244 q245 q246 q24 q247) rfl rfl rfl (by decide +kernel) ⟨Nat.le_of_ble_eq_true rfl, Nat.le_of_ble_eq_true rfl⟩) (em_recv Z.1) rfl hl.1 rfl (Nat.le_of_ble_eq_true rfl) dL_law_304 ⟨Nat.le_of_ble_eq_true rfl, Nat.le_of_ble_eq_true rfl⟩ (fun r6 σ6 H locs hp Z => ?_)
  obtain ⟨e6, f6⟩ := hp
  rw [f6] at Z
  have Z := ec_ZZ_sym Z
  refine lv_icmp_eq (tgt := 371) F.1 F.2.1 dL_law_307 (by decide) (fun c_1 => ?_) (fun c_1 => absurd e6.symm c_1)
  exact kk _ _ _ _ hR1 Z
set_option maxHeartbeats 4000000 in
theorem lw_c6 {p : Program} {l : Launch} {e : Env} {s : State} {m : MethodId} {below : List Frame} {meth : Method} {c : Code} {Q : State → Prop} {D : va_G} {G : ec_G} {A : Nat → Prop} {b L hx hm : Nat} {xs : Nat → Int32} {ax am : Nat → Nat} (F : CallFix p m c cL_law 4 s #[Value.ref b] lw_all R_law) (hA : ∀ q, s.heap.size ≤ q → A q) (hX : va_X b L xs s s.heap) (hbl : b < s.heap.size) (hbA : ¬ A b) (hL : L ≤ 320) {i : Nat} (hi : i + 5 ≤ L) {σ : XS} {τ : MS} (hR : Rel σ τ) {H : Heap} {locs : List Loc} (Z : ec_ZZ D G A s (XW G hx ax σ) (MW G hm am τ) H locs) {ls : Array Slot} (hl : lv_has ls 4 [(0, .ref b), (1, .ref hx), (2, .ref hm), (3, .int (nI i))])
    (kk : ∀ (σ1 : XS) (τ1 : MS) (H1 : Heap) (locs1 : List Loc), Rel σ1 τ1 → ec_ZZ D G A s (XW G hx ax σ1) (MW G hm am τ1) H1 locs1 → W p l e room_1 s m #[Value.ref b] below meth c H1 locs1 19 223 Q (F0 m 371 ls [])) : W p l e room_1 s m #[Value.ref b] below meth c H locs 19 223 Q (F0 m 312 ls []) := by
  obtain ⟨r, σ1, τ1, hR1, hMX, hMM⟩ := op_kind l D G hx ax hm am hR (xs (i + 1))
  refine lv_aload_n F.1 F.2.1 dL_law_312 rfl (lv_at hl 1 rfl) ?_
  refine lw_arg (j := 1) F hX hbl hbA Z.1.2.2.2 hi hL (by decide) hl dL_law_313 rfl dL_law_314 rfl dL_law_315 (by decide) rfl dL_law_316 rfl dL_law_317 rfl ?_
  refine ew_calli (Wf := XW G hx ax) (σ := σ) (As := [.int (xs (i + 1))]) (rest := []) F Z hA (hMX _) (cwV 1 F.2.2.2.2 (lw_V q145 q146 q147 q23 q148) rfl rfl rfl (by decide +kernel) ⟨Nat.le_of_ble_eq_true rfl, Nat.le_of_ble_eq_true rfl⟩) (ex_recv Z.1) rfl hl.1 rfl (Nat.le_of_ble_eq_true rfl) dL_law_318 ⟨Nat.le_of_ble_eq_true rfl, Nat.le_of_ble_eq_true rfl⟩ (fun r5 σ5 H locs hp Z => ?_)
  obtain ⟨e5, f5⟩ := hp
  rw [f5] at Z
  rw [e5]
  have Z := ec_ZZ_sym Z
  clear hMX
  refine lv_aload_n F.1 F.2.1 dL_law_321 rfl (lv_at hl 2 rfl) ?_
  refine lw_arg (j := 1) F hX hbl hbA Z.1.2.2.2 hi hL (by decide) hl dL_law_322 rfl dL_law_323 rfl dL_law_324 (by decide) rfl dL_law_325 rfl dL_law_326 rfl ?_
  refine ew_calli (Wf := MW G hm am) (σ := τ) (As := [.int (xs (i + 1))]) (rest := [.int r]) F Z hA (hMM _) (cwV 1 F.2.2.2.2 (lw_V q248 q249 q250 q24 q251) rfl rfl rfl (by decide +kernel) ⟨Nat.le_of_ble_eq_true rfl, Nat.le_of_ble_eq_true rfl⟩) (em_recv Z.1) rfl hl.1 rfl (Nat.le_of_ble_eq_true rfl) dL_law_327 ⟨Nat.le_of_ble_eq_true rfl, Nat.le_of_ble_eq_true rfl⟩ (fun r6 σ6 H locs hp Z => ?_)
  obtain ⟨e6, f6⟩ := hp
  rw [f6] at Z
  have Z := ec_ZZ_sym Z
  refine lv_icmp_eq (tgt := 371) F.1 F.2.1 dL_law_330 (by decide) (fun c_1 => ?_) (fun c_1 => absurd e6.symm c_1)
  exact kk _ _ _ _ hR1 Z
set_option maxHeartbeats 4000000 in
theorem lw_c7 {p : Program} {l : Launch} {e : Env} {s : State} {m : MethodId} {below : List Frame} {meth : Method} {c : Code} {Q : State → Prop} {D : va_G} {G : ec_G} {A : Nat → Prop} {b L hx hm : Nat} {xs : Nat → Int32} {ax am : Nat → Nat} (F : CallFix p m c cL_law 4 s #[Value.ref b] lw_all R_law) (hA : ∀ q, s.heap.size ≤ q → A q) (hX : va_X b L xs s s.heap) (hbl : b < s.heap.size) (hbA : ¬ A b) (hL : L ≤ 320) {i : Nat} (hi : i + 5 ≤ L) {σ : XS} {τ : MS} (hR : Rel σ τ) {H : Heap} {locs : List Loc} (Z : ec_ZZ D G A s (XW G hx ax σ) (MW G hm am τ) H locs) {ls : Array Slot} (hl : lv_has ls 4 [(0, .ref b), (1, .ref hx), (2, .ref hm), (3, .int (nI i))])
    (kk : ∀ (σ1 : XS) (τ1 : MS) (H1 : Heap) (locs1 : List Loc), Rel σ1 τ1 → ec_ZZ D G A s (XW G hx ax σ1) (MW G hm am τ1) H1 locs1 → W p l e room_1 s m #[Value.ref b] below meth c H1 locs1 19 223 Q (F0 m 371 ls [])) : W p l e room_1 s m #[Value.ref b] below meth c H locs 19 223 Q (F0 m 335 ls []) := by
  obtain ⟨r, σ1, τ1, hR1, hMX, hMM⟩ := op_hanging l D G hx ax hm am hR (xs (i + 1))
  refine lv_aload_n F.1 F.2.1 dL_law_335 rfl (lv_at hl 1 rfl) ?_
  refine lw_arg (j := 1) F hX hbl hbA Z.1.2.2.2 hi hL (by decide) hl dL_law_336 rfl dL_law_337 rfl dL_law_338 (by decide) rfl dL_law_339 rfl dL_law_340 rfl ?_
  refine ew_calli (Wf := XW G hx ax) (σ := σ) (As := [.int (xs (i + 1))]) (rest := []) F Z hA (hMX _) (cwV 1 F.2.2.2.2 (lw_V q149 q150 q151 q23 q152) rfl rfl rfl (by decide +kernel) ⟨Nat.le_of_ble_eq_true rfl, Nat.le_of_ble_eq_true rfl⟩) (ex_recv Z.1) rfl hl.1 rfl (Nat.le_of_ble_eq_true rfl) dL_law_341 ⟨Nat.le_of_ble_eq_true rfl, Nat.le_of_ble_eq_true rfl⟩ (fun r5 σ5 H locs hp Z => ?_)
  obtain ⟨e5, f5⟩ := hp
  rw [f5] at Z
  rw [e5]
  have Z := ec_ZZ_sym Z
  clear hMX
  refine lv_aload_n F.1 F.2.1 dL_law_344 rfl (lv_at hl 2 rfl) ?_
  refine lw_arg (j := 1) F hX hbl hbA Z.1.2.2.2 hi hL (by decide) hl dL_law_345 rfl dL_law_346 rfl dL_law_347 (by decide) rfl dL_law_348 rfl dL_law_349 rfl ?_
  refine ew_calli (Wf := MW G hm am) (σ := τ) (As := [.int (xs (i + 1))]) (rest := [.int r]) F Z hA (hMM _) (cwV 1 F.2.2.2.2 (lw_V q252 q253 q254 q24 q255) rfl rfl rfl (by decide +kernel) ⟨Nat.le_of_ble_eq_true rfl, Nat.le_of_ble_eq_true rfl⟩) (em_recv Z.1) rfl hl.1 rfl (Nat.le_of_ble_eq_true rfl) dL_law_350 ⟨Nat.le_of_ble_eq_true rfl, Nat.le_of_ble_eq_true rfl⟩ (fun r6 σ6 H locs hp Z => ?_)
  obtain ⟨e6, f6⟩ := hp
  rw [f6] at Z
  have Z := ec_ZZ_sym Z
  refine lv_icmp_eq (tgt := 371) F.1 F.2.1 dL_law_353 (by decide) (fun c_1 => ?_) (fun c_1 => absurd e6.symm c_1)
  exact kk _ _ _ _ hR1 Z
set_option maxHeartbeats 4000000 in
theorem lw_c8 {p : Program} {l : Launch} {e : Env} {s : State} {m : MethodId} {below : List Frame} {meth : Method} {c : Code} {Q : State → Prop} {D : va_G} {G : ec_G} {A : Nat → Prop} {b L hx hm : Nat} {xs : Nat → Int32} {ax am : Nat → Nat} (F : CallFix p m c cL_law 4 s #[Value.ref b] lw_all R_law) (hA : ∀ q, s.heap.size ≤ q → A q) (hX : va_X b L xs s s.heap) (hbl : b < s.heap.size) (hbA : ¬ A b) (hL : L ≤ 320) {i : Nat} (hi : i + 5 ≤ L) {σ : XS} {τ : MS} (hR : Rel σ τ) {H : Heap} {locs : List Loc} (Z : ec_ZZ D G A s (XW G hx ax σ) (MW G hm am τ) H locs) {ls : Array Slot} (hl : lv_has ls 4 [(0, .ref b), (1, .ref hx), (2, .ref hm), (3, .int (nI i))])
    (kk : ∀ (σ1 : XS) (τ1 : MS) (H1 : Heap) (locs1 : List Loc), Rel σ1 τ1 → ec_ZZ D G A s (XW G hx ax σ1) (MW G hm am τ1) H1 locs1 → W p l e room_1 s m #[Value.ref b] below meth c H1 locs1 19 223 Q (F0 m 371 ls [])) : W p l e room_1 s m #[Value.ref b] below meth c H locs 19 223 Q (F0 m 358 ls []) := by
  obtain ⟨r, σ1, τ1, hR1, hMX, hMM⟩ := op_depth l D G hx ax hm am hR 
  refine lv_aload_n F.1 F.2.1 dL_law_358 rfl (lv_at hl 1 rfl) ?_
  refine ew_calli (Wf := XW G hx ax) (σ := σ) (As := []) (rest := []) F Z hA (hMX _) (cwV 0 F.2.2.2.2 (lw_V q153 q154 q155 q23 q156) rfl rfl rfl (by decide +kernel) ⟨Nat.le_of_ble_eq_true rfl, Nat.le_of_ble_eq_true rfl⟩) (ex_recv Z.1) rfl hl.1 rfl (Nat.le_of_ble_eq_true rfl) dL_law_359 ⟨Nat.le_of_ble_eq_true rfl, Nat.le_of_ble_eq_true rfl⟩ (fun r5 σ5 H locs hp Z => ?_)
  obtain ⟨e5, f5⟩ := hp
  rw [f5] at Z
  rw [e5]
  have Z := ec_ZZ_sym Z
  clear hMX
  refine lv_aload_n F.1 F.2.1 dL_law_362 rfl (lv_at hl 2 rfl) ?_
  refine ew_calli (Wf := MW G hm am) (σ := τ) (As := []) (rest := [.int r]) F Z hA (hMM _) (cwV 0 F.2.2.2.2 (lw_V q256 q257 q258 q24 q259) rfl rfl rfl (by decide +kernel) ⟨Nat.le_of_ble_eq_true rfl, Nat.le_of_ble_eq_true rfl⟩) (em_recv Z.1) rfl hl.1 rfl (Nat.le_of_ble_eq_true rfl) dL_law_363 ⟨Nat.le_of_ble_eq_true rfl, Nat.le_of_ble_eq_true rfl⟩ (fun r6 σ6 H locs hp Z => ?_)
  obtain ⟨e6, f6⟩ := hp
  rw [f6] at Z
  have Z := ec_ZZ_sym Z
  refine lv_icmp_eq (tgt := 371) F.1 F.2.1 dL_law_366 (by decide) (fun c_1 => ?_) (fun c_1 => absurd e6.symm c_1)
  exact kk _ _ _ _ hR1 Z
end
section
/-! the law's loop, and its start -/
set_option maxRecDepth 100000
def lw_P (b : Addr) (xs : List Int32) (args : Array Value) (s : State) : Prop := args = #[.ref b] ∧ s.IntsAt b xs ∧ xs.length ≤ 320 ∧ (Jvm.Cond.and given_1 narrow_1).before args s = true
def lw_Q (_ : Array Value) (s : State) (o : Outcome) (t : State) : Prop := o = .returned (some (.int 1)) ∧ Framed s o t [] 600000 7290000
def lw_Z (below : List Frame) (a : Array Value) (s : State) : State → Prop := fun t => ∃ o, t.status = .running ∧ Ended t below o ∧ lw_Q a s o t
/-- the law's own end, with 1 on the stack, nothing written that was there before, its room as the claim has it -/
theorem lw_ret {p : Program} {l : Launch} {e : Env} {s : State} {m : MethodId} {below : List Frame} {meth : Method} {c : Code} {b : Nat} (hx : p.tables.exec = Jvm.exec) (hb : c.code = code) (hr : meth.sig.returnType = ret) (hlocks : meth.locks = false) {pc : Nat} {H : Heap} {ls : Array Slot} (hdg : decode code pc = .ok (.ireturn, 1)) : W p l e room_1 s m #[Value.ref b] below meth c H [] 600000 7290000 (lw_Z below #[Value.ref b] s) (F0 m pc ls [.int 1]) := by
  intro T hT X
  obtain ⟨fs, hret, hrun, hended, hW, hframe⟩ := X.leave (v := some (.int 1)) (hlocks := hlocks) (fun h => by rw [hr] at h; cases h)
  have hmeth' : T.vm.method? m = some meth := X.method'
  refine ⟨T.setFrames fs, ?_, .returned (some (.int 1)), hrun, hended, rfl, ⟨_, rfl⟩, hW, hframe⟩
  jvm_step X.here [X.here.top, hx, hb, hdg, hmeth', hr, ret, narrow_b1]
  (try refine ⟨rfl, ?_⟩); (try refine ⟨rfl, ?_⟩)
  first | (intro acts; rw [hret _ acts rfl rfl rfl]) | rw [hret _ _ rfl rfl rfl]
  exact Steps.refl _
/-- what holds at the law's entry: the machine, the code, the tables' words (any of lw_tbl by 'hts w (by decide +kernel)'), the script of L ints xs at the cell b, what the Statement gives of the start (any of its parts by flat_of_before) -/
def lw_At (p : Program) (s : State) (m : MethodId) (meth : Method) (c : Code) (b L : Nat) (xs : Nat → Int32) : Prop :=
  p.tables.exec = Jvm.exec ∧ c.code = code ∧ meth.sig.returnType = ret ∧ c.maxLocals = 4 ∧ s.vm.findClass R_law = some m.cls ∧ (∀ w ∈ lw_tbl, w.before #[Value.ref b] s = true) ∧ va_X b L xs s s.heap ∧ b < s.heap.size ∧ meth.locks = false ∧ (Jvm.Cond.and given_1 narrow_1).before #[Value.ref b] s = true
set_option maxHeartbeats 4000000 in
/-- the loop's head: it leaves with true, or a turn is to be made -/
theorem lw_head {p : Program} {e : Env} {s : State} {m : MethodId} {below : List Frame} {meth : Method} {c : Code} {A : Nat → Prop} {b L hx hm : Nat} {xs : Nat → Int32} (l : Launch) (C0 : lw_At p s m meth c b L xs) (hA : ∀ q, A q → s.heap.size ≤ q) (hbA : ¬ A b) (hL : L ≤ 320) {i : Nat} (hi : i ≤ 320) {H : Heap} {locs : List Loc} (hS : va_S A s.heap H locs) {ls : Array Slot} (hl : lv_has ls 4 [(0, .ref b), (1, .ref hx), (2, .ref hm), (3, .int (nI i))])
    (kk : i + 5 ≤ L → W p l e room_1 s m #[Value.ref b] below meth c H locs 19 223 (lw_Z below #[Value.ref b] s) (F0 m 26 ls [])) : W p l e room_1 s m #[Value.ref b] below meth c H locs 19 223 (lw_Z below #[Value.ref b] s) (F0 m 18 ls []) := by
  obtain ⟨hx0, hb0, hr, hml, hown, hts0, hX, hbl, hlocks, hgv⟩ := C0
  have F : CallFix p m c cL_law 4 s #[Value.ref b] lw_all R_law := ⟨hx0, hb0, hml, hown, fun w h => hts0 w (lw_all_tbl h)⟩
  refine lv_iload_n F.1 F.2.1 dL_law_18 rfl (lv_at hl 3 rfl) ?_
  refine lv_aload_n F.1 F.2.1 dL_law_19 rfl (lv_at hl 0 rfl) ?_
  refine va_slen F.1 F.2.1 hX hbl hbA hS dL_law_20 ?_
  refine lv_iconst (v := nI 5) F.1 F.2.1 dL_law_21 (by decide) ?_
  refine lv_isub F.1 F.2.1 dL_law_22 ?_
  refine lv_icmp_gt (tgt := 377) F.1 F.2.1 dL_law_23 (by decide) (fun _ => ?_) (fun c_1 => kk ?_)
  · refine va_forget (fun q hq => hA _ (hS.2.2 q hq)) ?_
    refine lv_iconst (v := 1) F.1 F.2.1 dL_law_377 (by decide) ?_
    refine W.widen (k := 600000) (n := 7290000) (Nat.le_of_ble_eq_true rfl) (Nat.le_of_ble_eq_true rfl) ?_
    exact lw_ret hx0 hb0 hr hlocks dL_law_378
  · have c_1 : ¬ nI L - nI 5 < nI i := c_1
    rw [lw_cmp hi hL] at c_1
    omega
set_option maxHeartbeats 4000000 in
/-- a turn: the switch, the case, the step -/
theorem lw_turn {p : Program} {l : Launch} {e : Env} {s : State} {m : MethodId} {below : List Frame} {meth : Method} {c : Code} {Q : State → Prop} {D : va_G} {G : ec_G} {A : Nat → Prop} {b L hx hm : Nat} {xs : Nat → Int32} {ax am : Nat → Nat} (F : CallFix p m c cL_law 4 s #[Value.ref b] lw_all R_law) (hA : ∀ q, s.heap.size ≤ q → A q) (hX : va_X b L xs s s.heap) (hbl : b < s.heap.size) (hbA : ¬ A b) (hL : L ≤ 320) {i : Nat} (hi : i + 5 ≤ L) {σ : XS} {τ : MS} (hR : Rel σ τ) {H : Heap} {locs : List Loc} (Z : ec_ZZ D G A s (XW G hx ax σ) (MW G hm am τ) H locs) {ls : Array Slot} (hl : lv_has ls 4 [(0, .ref b), (1, .ref hx), (2, .ref hm), (3, .int (nI i))])
    (kk : ∀ (σ1 : XS) (τ1 : MS) (H1 : Heap) (locs1 : List Loc) (ls : Array Slot), Rel σ1 τ1 → ec_ZZ D G A s (XW G hx ax σ1) (MW G hm am τ1) H1 locs1 → lv_has ls 4 [(0, .ref b), (1, .ref hx), (2, .ref hm), (3, .int (nI (i + 5)))] → W p l e room_1 s m #[Value.ref b] below meth c H1 locs1 19 223 Q (F0 m 18 ls [])) : W p l e room_1 s m #[Value.ref b] below meth c H locs 19 223 Q (F0 m 26 ls []) := by
  have fin_ : ∀ (σ1 : XS) (τ1 : MS) (H1 : Heap) (locs1 : List Loc), Rel σ1 τ1 → ec_ZZ D G A s (XW G hx ax σ1) (MW G hm am τ1) H1 locs1 → W p l e room_1 s m #[Value.ref b] below meth c H1 locs1 19 223 Q (F0 m 371 ls []) := by
    intro σ1 τ1 H1 locs1 hR1 Z1
    refine lv_iinc (v := nI (i + 5)) (lv' := [(3, .int (nI (i + 5))), (0, .ref b), (1, .ref hx), (2, .ref hm)]) F.1 F.2.1 dL_law_371 hl (k := 3) rfl (by rw [show Int32.ofInt 5 = nI 5 by decide, nI_add]) (by decide) rfl (fun ls hl => ?_)
    refine lv_goto (tgt := 18) F.1 F.2.1 dL_law_374 (by decide) ?_
    exact kk σ1 τ1 H1 locs1 ls hR1 Z1 (lv_sub hl [1, 2, 3, 0] rfl)
  refine lv_aload_n F.1 F.2.1 dL_law_26 rfl (lv_at hl 0 rfl) ?_
  refine lv_iload_n F.1 F.2.1 dL_law_27 rfl (lv_at hl 3 rfl) ?_
  refine va_sld F.1 F.2.1 hX hbl hbA Z.1.2.2.2 (vp_in_nI (by omega) (by omega)) dL_law_28 ?_
  refine lv_bipush (v := nI 15) F.1 F.2.1 dL_law_29 (by decide) ?_
  refine lv_iand F.1 F.2.1 dL_law_31 ?_
  obtain ⟨j, hj, ej⟩ := lw_m15 (xs (nI i).toNatClampNeg)
  rw [ej]
  have hc : j = 0 ∨ j = 1 ∨ j = 2 ∨ j = 3 ∨ j = 4 ∨ j = 5 ∨ j = 6 ∨ j = 7 ∨ j = 8 ∨ 9 ≤ j := by omega
  rcases hc with rfl | rfl | rfl | rfl | rfl | rfl | rfl | rfl | rfl | h9
  · refine lv_tableIn (tgt := 84) (off := 52) F.1 F.2.1 dL_law_32 (by decide) (by decide) (by decide) (by decide) ?_
    exact lw_c0 F hA hX hbl hbA hL hi hR Z hl fin_
  · refine lv_tableIn (tgt := 137) (off := 105) F.1 F.2.1 dL_law_32 (by decide) (by decide) (by decide) (by decide) ?_
    exact lw_c1 F hA hX hbl hbA hL hi hR Z hl fin_
  · refine lv_tableIn (tgt := 190) (off := 158) F.1 F.2.1 dL_law_32 (by decide) (by decide) (by decide) (by decide) ?_
    exact lw_c2 F hA hX hbl hbA hL hi hR Z hl fin_
  · refine lv_tableIn (tgt := 213) (off := 181) F.1 F.2.1 dL_law_32 (by decide) (by decide) (by decide) (by decide) ?_
    exact lw_c3 F hA hX hbl hbA hL hi hR Z hl fin_
  · refine lv_tableIn (tgt := 246) (off := 214) F.1 F.2.1 dL_law_32 (by decide) (by decide) (by decide) (by decide) ?_
    exact lw_c4 F hA hX hbl hbA hL hi hR Z hl fin_
  · refine lv_tableIn (tgt := 289) (off := 257) F.1 F.2.1 dL_law_32 (by decide) (by decide) (by decide) (by decide) ?_
    exact lw_c5 F hA hX hbl hbA hL hi hR Z hl fin_
  · refine lv_tableIn (tgt := 312) (off := 280) F.1 F.2.1 dL_law_32 (by decide) (by decide) (by decide) (by decide) ?_
    exact lw_c6 F hA hX hbl hbA hL hi hR Z hl fin_
  · refine lv_tableIn (tgt := 335) (off := 303) F.1 F.2.1 dL_law_32 (by decide) (by decide) (by decide) (by decide) ?_
    exact lw_c7 F hA hX hbl hbA hL hi hR Z hl fin_
  · refine lv_tableIn (tgt := 358) (off := 326) F.1 F.2.1 dL_law_32 (by decide) (by decide) (by decide) (by decide) ?_
    exact lw_c8 F hA hX hbl hbA hL hi hR Z hl fin_
  · refine lv_tableOut (tgt := 371) F.1 F.2.1 dL_law_32 (Or.inr ?_) (by decide) (fin_ σ τ H locs hR Z)
    rw [nI_toInt (by omega)]
    omega
set_option maxHeartbeats 4000000 in
theorem lw_loop {p : Program} {e : Env} {s : State} {m : MethodId} {below : List Frame} {meth : Method} {c : Code} {D : va_G} {G : ec_G} {A : Nat → Prop} {b L hx hm : Nat} {xs : Nat → Int32} {ax am : Nat → Nat} (l : Launch) (C0 : lw_At p s m meth c b L xs) (hA1 : ∀ q, s.heap.size ≤ q → A q) (hA2 : ∀ q, A q → s.heap.size ≤ q) (hbA : ¬ A b) (hL : L ≤ 320) :
    ∀ (n i : Nat), i ≤ 320 → L ≤ i + n → ∀ (σ : XS) (τ : MS), Rel σ τ → ∀ (H : Heap) (locs : List Loc), ec_ZZ D G A s (XW G hx ax σ) (MW G hm am τ) H locs → ∀ ls : Array Slot, lv_has ls 4 [(0, .ref b), (1, .ref hx), (2, .ref hm), (3, .int (nI i))] → W p l e room_1 s m #[Value.ref b] below meth c H locs 19 223 (lw_Z below #[Value.ref b] s) (F0 m 18 ls []) := by
  intro n
  induction n with
  | zero =>
    intro i hi hn σ τ hR H locs Z ls hl
    exact lw_head l C0 hA2 hbA hL hi Z.1.2.2.2 hl (fun h => absurd h (by omega))
  | succ n ih =>
    intro i hi hn σ τ hR H locs Z ls hl
    refine lw_head l C0 hA2 hbA hL hi Z.1.2.2.2 hl (fun h => ?_)
    obtain ⟨hx0, hb0, hr, hml, hown, hts0, hX, hbl, hlocks, hgv⟩ := id C0
    refine lw_turn ⟨hx0, hb0, hml, hown, fun w h => hts0 w (lw_all_tbl h)⟩ hA1 hX hbl hbA hL h hR Z hl (fun σ1 τ1 H1 locs1 ls1 hR1 Z1 hl1 => ?_)
    exact ih (i + 5) (by omega) (by omega) σ1 τ1 hR1 H1 locs1 Z1 ls1 hl1
theorem lw_known {b : Nat} {s : State} (hts : ∀ w ∈ lw_all, w.before #[Value.ref b] s = true) : ∃ (D : va_G) (G : ec_G), va_K D vwCl (ec_ty G) s := by
  obtain ⟨c0, iS0, hKn0⟩ := u_known (C := RX0) (T := TX0) (N := 11) (n := 11) hts in_X0 (hts _ q26)
  obtain ⟨c1, iS1, hKn1⟩ := u_known (C := RX1) (T := TX1) (N := 8) (n := 8) hts in_X1 (hts _ q158)
  obtain ⟨cB, kB, compB, hfB, hkB, hdB⟩ := Cond.arrayClass_spec (hts _ q67)
  obtain ⟨cI, kI, compI, hfI, hkI, hdI⟩ := Cond.arrayClass_spec (hts _ q68)
  refine ⟨(fun k => if k = 0 then c0 else c1, fun k => if k = 0 then iS0 else iS1), (cB, cI), ?_, ?_⟩
  · intro k q hq
    match k, hq with
    | 0, hq => cases hq; exact hKn0
    | 1, hq => cases hq; exact hKn1
    | k + 2, hq => simp [vwCl] at hq
  · intro k q hq
    match k, hq with
    | 0, hq => cases hq; exact ⟨fun n z => ⟨fun k h => (by cases h), kB, hkB, compB, hdB⟩, hfB⟩
    | 1, hq => cases hq; exact ⟨fun n z => ⟨fun k h => (by cases h), kI, hkI, compI, hdI⟩, hfI⟩
    | k + 2, hq => simp [ec_ty] at hq
set_option maxHeartbeats 4000000 in
theorem whole_start {p : Program} {e : Env} {s : State} {m : MethodId} {below : List Frame} {meth : Method} {c : Code} (l : Launch) {b L : Nat} {xs : Nat → Int32} (hL : L ≤ 320) (C0 : lw_At p s m meth c b L xs) : W p l e room_1 s m #[Value.ref b] below meth c s.heap [] 0 0 (lw_Z below #[Value.ref b] s) (entryFrame m ([Value.ref b] : List Value).toArray 4) := by
  obtain ⟨hx0, hb0, hr, hml, hown, hts0, hX, hbl, hlocks, hgv⟩ := id C0
  have hts : ∀ w ∈ lw_all, w.before #[Value.ref b] s = true := fun w h => hts0 w (lw_all_tbl h)
  have F : CallFix p m c cL_law 4 s #[Value.ref b] lw_all R_law := ⟨hx0, hb0, hml, hown, hts⟩
  obtain ⟨A, hAe⟩ : ∃ A : Nat → Prop, A = fun q : Nat => s.heap.size ≤ q := ⟨_, rfl⟩
  have hA1 : ∀ q, s.heap.size ≤ q → A q := fun q h => by rw [hAe]; exact h
  have hA2 : ∀ q, A q → s.heap.size ≤ q := fun q h => by rw [hAe] at h; exact h
  have hbA : ¬ A b := fun h => absurd (hA2 b h) (Nat.not_le.mpr hbl)
  obtain ⟨D, G, hK⟩ := lw_known hts
  have hS : va_S A s.heap s.heap [] := va_S.rf
  have hP : va_P D vwCl [] s.heap := fun k q h => by simp at h
  have hD : va_D A [] := ⟨fun i j p q h => by simp at h, fun k q h => by simp at h⟩
  have hl := lv_entry ([.ref b]) (n := 4) (Nat.le_of_ble_eq_true rfl)
  rw [lg_entry_eq]
  generalize (lg_sl ([.ref b]) ++ List.replicate (4 - (lg_sl ([.ref b])).length) Slot.unset).toArray = ls at hl ⊢
  have hl : lv_has ls 4 [(0, .ref b)] := hl
  refine va_new (D := D) (ci := 0) (fs := X_fs0) (C := RX0) (T := TX0) (N := 11) F.1 F.2.1 hts in_X0 tyX0 tyX0_ok hown (hts _ q25) (hts _ q26) (hts _ q23) hK hP hD hS hA1 rfl (fun j hj => by rcases (show j = 0 ∨ j = 1 ∨ j = 2 ∨ j = 3 ∨ j = 4 ∨ j = 5 ∨ j = 6 ∨ j = 7 ∨ j = 8 ∨ j = 9 ∨ j = 10 by omega) with rfl | rfl | rfl | rfl | rfl | rfl | rfl | rfl | rfl | rfl | rfl <;> rfl) (Nat.le_of_ble_eq_true rfl) (Nat.le_of_ble_eq_true rfl) dL_law_0 (fun hx H hP hD hS => ?_)
  have Z : ec_ZZ D G A s [(hx, .inr (0, X_fs0))] [] H [] := ec_ZZ_nil ⟨hK, hP, hD, hS⟩
  refine lv_dup F.1 F.2.1 dL_law_3 rfl ?_
  refine ew_ini (Wf := fun ad => XW G hx ad x_0) F Z hA1 (x_init_m l D G hx H.size) (cwI 0 hts (lw_meth q29) rfl rfl rfl (hts _ q23) (hts _ q27) (hts _ q28) rfl (by decide +kernel) ⟨Nat.le_of_ble_eq_true rfl, Nat.le_of_ble_eq_true rfl⟩) rfl hl.1 (Nat.le_of_ble_eq_true rfl) dL_law_4 ⟨Nat.le_of_ble_eq_true rfl, Nat.le_of_ble_eq_true rfl⟩ (fun ax H locs Z => ?_)
  refine lv_astore_n (lv' := [(1, .ref hx), (0, .ref b)]) F.1 F.2.1 dL_law_7 rfl hl (by decide) rfl (fun ls hl => ?_)
  have Z := Z.1
  refine va_new (D := D) (ci := 1) (fs := M_fs0) (C := RX1) (T := TX1) (N := 8) F.1 F.2.1 hts in_X1 tyX1 tyX1_ok hown (hts _ q157) (hts _ q158) (hts _ q24) hK Z.2.1 Z.2.2.1 Z.2.2.2 hA1 rfl (fun j hj => by rcases (show j = 0 ∨ j = 1 ∨ j = 2 ∨ j = 3 ∨ j = 4 ∨ j = 5 ∨ j = 6 ∨ j = 7 by omega) with rfl | rfl | rfl | rfl | rfl | rfl | rfl | rfl <;> rfl) (Nat.le_of_ble_eq_true rfl) (Nat.le_of_ble_eq_true rfl) dL_law_8 (fun hm H hP hD hS => ?_)
  have Z : ec_ZZ D G A s [(hm, .inr (1, M_fs0))] (XW G hx ax x_0) H locs := ec_ZZ_sym (ec_ZZ_app ⟨hK, hP, hD, hS⟩)
  refine lv_dup F.1 F.2.1 dL_law_11 rfl ?_
  refine ew_ini (Wf := fun ad => MW G hm ad m_0) F Z hA1 (m_init_m l D G hm H.size) (cwI 0 hts (lw_meth q161) rfl rfl rfl (hts _ q24) (hts _ q159) (hts _ q160) rfl (by decide +kernel) ⟨Nat.le_of_ble_eq_true rfl, Nat.le_of_ble_eq_true rfl⟩) rfl hl.1 (Nat.le_of_ble_eq_true rfl) dL_law_12 ⟨Nat.le_of_ble_eq_true rfl, Nat.le_of_ble_eq_true rfl⟩ (fun am H locs Z => ?_)
  refine lv_astore_n (lv' := [(2, .ref hm), (1, .ref hx), (0, .ref b)]) F.1 F.2.1 dL_law_15 rfl hl (by decide) rfl (fun ls hl => ?_)
  refine lv_iconst (v := nI 0) F.1 F.2.1 dL_law_16 (by decide) ?_
  refine lv_istore_n (lv' := [(3, .int (nI 0)), (2, .ref hm), (1, .ref hx), (0, .ref b)]) F.1 F.2.1 dL_law_17 rfl hl (by decide) rfl (fun ls hl => ?_)
  refine W.widen (k := 19) (n := 223) (Nat.le_of_ble_eq_true rfl) (Nat.le_of_ble_eq_true rfl) ?_
  exact lw_loop l C0 hA1 hA2 hbA hL L 0 (Nat.zero_le _) (by omega) x_0 m_0 rel_0 H locs (ec_ZZ_sym Z) ls (lv_sub hl [3, 2, 1, 0] rfl)
end
section
/-! the claim out of the walk -/
set_option maxHeartbeats 4000000 in
theorem lw_walk (l : Launch) (b : Addr) (xs : List Int32) : MetFree l x (headSpec (Jvm.Cond.code x code maxLocals ret :: tables_1) room_1) (lw_P b xs) (fun _ _ _ _ _ => True) lw_Q := by
  refine MetFree.of_bodyS (code := code) (maxLocals := maxLocals) (ret := ret) (by decide) ?_ ?_
  · intro args s m h hn
    obtain ⟨meth, c, h1, h2, h3, h4, h5, h6, -, -⟩ := Cond.code_spec hn (atoms_spec (ws := Jvm.Cond.code x code maxLocals ret :: tables_1) h _ List.mem_cons_self)
    exact ⟨meth, c, h1, h2, h3, h4, h5, h6⟩
  · intro p e s m args below meth c s₁ B hml0 hP _
    obtain ⟨rfl, hx, hbd, hgv⟩ := hP
    obtain ⟨scr, harrAt, hlist, hof, hsmall⟩ := hx
    obtain ⟨hcb, hkn, -, -⟩ := State.arrayAt?_spec harrAt
    have hown : s.vm.findClass R_law = some m.cls := findClass_of_methodNamed B.named
    have hts0 : ∀ c ∈ (Jvm.Cond.code x code maxLocals ret :: tables_1), c.before #[Value.ref b] s = true := atoms_spec (ws := Jvm.Cond.code x code maxLocals ret :: tables_1) B.pre
    have hts : ∀ w ∈ lw_tbl, w.before #[Value.ref b] s = true := k2_hts_sels lw_privs (fun w hw => hts0 w (List.mem_cons_of_mem _ hw)) lw_privs_ok
    have hml : c.maxLocals = 4 := B.maxLocals_eq (hts0 _ List.mem_cons_self)
    have X₀ : Stand p l e room_1 s m #[Value.ref b] below meth c s₁ [] 0 0 := Stand.of_body B
    have hh0 : s₁.heap = s.heap := by rw [B.state]; rfl
    have hsz : scr.slots.size = xs.length := by rw [← Array.length_toList, hlist, List.length_map]
    have hval : ∀ j : Nat, j < xs.length → scr.slots[j]? = some (.int (xs.getD j 0)) := fun j hj => by
      rw [← Array.getElem?_toList, hlist]
      simp [hj]
    have hbl : b < s.heap.size := (Array.getElem?_eq_some_iff.mp hcb).1
    have hX : va_X b xs.length (fun j => xs.getD j 0) s s.heap := ⟨scr, hcb, hof, hkn, hsz, hval⟩
    have K : W p l e room_1 s m #[Value.ref b] below meth c s₁.heap [] 0 0 (lw_Z below #[Value.ref b] s) (entryFrame m ([Value.ref b] : List Value).toArray 4) := by
      rw [hh0]
      exact whole_start l hbd ⟨B.exec, B.bytes, B.returns, hml, hown, hts, hX, hbl, B.notSynchronized, hgv⟩
    obtain ⟨t, a1, o, b1, b2, b3⟩ := K s₁ rfl X₀
    exact ⟨t, o, a1, b1, b2, b3⟩
theorem lw_pre_spec {args : Array Value} {s : State} (h : (Jvm.Cond.and given_1 narrow_1).before args s = true) (hr : rest_1_c.before args s = true) : ∃ (b : Addr) (xs : List Int32), lw_P b xs args s := by
  have hs := flat_of_before _ h
  have hq := flat_of_before _ hr
  have hc : (Cond.count 1).before args s = true := hs _ (by decide +kernel)
  have harr : (Cond.arrayOf (.arg 0) .int).before args s = true := hs _ (by decide +kernel)
  have hle : (Cond.le (.length (.arg 0)) (.int 320)).before args s = true := hs _ (by decide +kernel)
  have hlen : (Cond.isInt (.length (.arg 0))).before args s = true := hq _ (by decide +kernel)
  have hall : (Cond.all (.arg 0) (.isInt (.elem (.arg 0) (.index 0)))).before args s = true := hq _ (by decide +kernel)
  obtain ⟨b, xs, hb, hx⟩ := State.ints_of_pre rfl harr hlen hall
  have hsm : xs.length < 2 ^ 31 := hx.choose_spec.2.2.2
  have hev : (Term.length (.arg 0)).eval args s none [] s = some (.int xs.length.toInt32) := hx.length_eval hb
  have hv := Cond.le_ints hev (show (Term.int 320).eval args s none [] s = some (.int 320) from rfl)
  have hd : xs.length.toInt32 ≤ 320 := by
    simpa [Cond.before, Cond.holds, hv] using hle
  have hN : xs.length ≤ 320 := (Int32.ofNat_le_ofNat hsm (by decide)).mp (show Int32.ofNat xs.length ≤ Int32.ofNat 320 from hd)
  exact ⟨b, xs, Cond.one_arg hc (show args[0]? = some (.ref b) from hb), hx, hN, h⟩
theorem lw_comes (l : Launch) : Comes l x (Jvm.Cond.code x code maxLocals ret :: tables_1) room_1 (fun tb e args s => Calls_1 tb e args s ∧ rest_1 tb e args s ∧ Pre_1 tb e args s)
    (fun _ _ args s o t => lw_Q args s o t) := by
  intro p e ha hc hk s m args below hf hfit hheap happ hpre
  obtain ⟨b, xs, hP⟩ := lw_pre_spec hpre.2.2 hpre.2.1
  obtain ⟨k, o, h1, h2, h3, hQ⟩ := lw_walk l b xs p e ha hc hk s m args below hf ((Spec.applies_iff_loose hf).mp happ).1 hP trivial
  exact ⟨k, o, h1, h2, h3, hQ⟩
theorem lw_frame {s t : State} {o : Outcome} {args : Array Value} (h : Framed s o t [] 600000 7290000) :
    Framed s o t (fieldLocs frame_1_writes args s ++ arrayLocs frame_1_arrays args s ++ staticLocs frame_1_statics s) 600000 7290000 := h
theorem lw_limb (L : Cond) (hL : ∀ (args : Array Value) (s t : State), L.after args s (.returned (some (.int 1))) t = true) :
    ArmFor flags0 classFile x code maxLocals ret World_1 tables_1 room_1 Calls_1 rest_1 Pre_1
      (fun tb e a s o t => postC L tb e a s o t ∧ Framed s o t (fieldLocs frame_1_writes a s ++ arrayLocs frame_1_arrays a s ++ staticLocs frame_1_statics s) 600000 7290000) := by
  intro l _ _ _ p e ha hc hk s m args below hf hfit hheap happ hpre
  obtain ⟨k, o, h1, h2, h3, rfl, hF⟩ := lw_comes l p e ha hc hk s m args below hf hfit hheap happ hpre
  exact ⟨k, _, h1, h2, h3, hL args s _, lw_frame hF⟩
theorem i_vc : Claimed_1_1 ∧ Claimed_1_2 := ⟨lw_limb limb_1_1 (fun args s t => by simp [limb_1_1, Cond.after, Cond.holds, Cond.value]), lw_limb limb_1_2 (fun args s t => Cond.after_iff.mpr (by
  first | (rw [show limb_1_2 = Cond.eq .result (.int 1) from rfl, Cond.eq_ints (x := 1) (y := 1) rfl rfl]; simp; done) | (simp [limb_1_2, Cond.value, Term.eval]; done)))⟩
end
