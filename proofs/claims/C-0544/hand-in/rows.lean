section
theorem pk_us {f : Nat → Int32} {k : Nat} {x : Int32} : upd f k x k = x := if_pos rfl
theorem pk_un {f : Nat → Int32} {k j : Nat} {x : Int32} (h : j ≠ k) : upd f k x j = f j := if_neg h
theorem pk_sub {a b : Nat} (h : b ≤ a) : nI a - nI b = nI (a - b) := by
  obtain ⟨c, rfl⟩ : ∃ c, a = c + b := ⟨a - b, by omega⟩
  rw [← nI_add, Int32.add_sub_cancel, Nat.add_sub_cancel]
theorem pk_m1 (n : Nat) : nI (n + 1) + (-1) = nI n := by
  rw [← nI_1, Int32.add_assoc, show (1 : Int32) + (-1) = 0 from rfl, Int32.add_zero]
theorem pk_mul (a b : Nat) : nI a * nI b = nI (a * b) := (Int32.ofNat_mul a b).symm
theorem pk_div {a d : Nat} (ha : a < 2 ^ 31) (h0 : 0 < d) (hd : d < 2 ^ 31) : nI a / nI d = nI (a / d) := by
  apply Int32.toInt_inj.mp
  rw [lg_idiv_nonneg (by rw [nI_toInt ha]; omega) (by rw [nI_toInt hd]; omega), nI_toInt ha, nI_toInt hd, nI_toInt (Nat.lt_of_le_of_lt (Nat.div_le_self a d) ha)]
  first | rfl | exact (Int.natCast_ediv _ _).symm
theorem pk_sub_toInt {a b : Nat} (ha : a < 2 ^ 30) (hb : b < 2 ^ 30) : (nI a - nI b).toInt = (a : Int) - b := by
  rw [Int32.toInt_sub, nI_toInt (by omega), nI_toInt (by omega)]
  exact Int.bmod_eq_of_le (by omega) (by omega)
theorem pk_sneg {a b : Nat} (hb : b < 2 ^ 30) (h : a < b) : nI a - nI b < 0 := by
  rw [Int32.lt_iff_toInt_lt, pk_sub_toInt (by omega) hb, show (0 : Int32).toInt = 0 from by decide]
  omega
theorem pk_ix (x : Int32) {n : Nat} (hn : n < 2 ^ 31) : x < 0 ∨ nI n ≤ x ∨ ∃ j : Nat, j < n ∧ x = nI j := by
  by_cases h : x < 0
  · exact Or.inl h
  · obtain ⟨j, hj, rfl⟩ := nI_of h
    by_cases h2 : j < n
    · exact Or.inr (Or.inr ⟨j, h2, rfl⟩)
    · exact Or.inr (Or.inl (nI_le (by omega) hj))
theorem pk_le {x y : Int32} {A B : Prop} (a b : Nat) (f : a ≤ b → A) (g : b < a → B) (hx : x = nI a := by rfl) (hy : y = nI b := by rfl) (ha : a < 2 ^ 31 := by omega) (hb : b < 2 ^ 31 := by omega) : (x ≤ y → A) ∧ (¬ x ≤ y → B) := by
  subst hx hy
  rw [nI_leI ha hb]
  exact ⟨f, fun z => g (by omega)⟩
theorem pk_lt {x y : Int32} {A B : Prop} (a b : Nat) (f : a < b → A) (g : b ≤ a → B) (hx : x = nI a := by rfl) (hy : y = nI b := by rfl) (ha : a < 2 ^ 31 := by omega) (hb : b < 2 ^ 31 := by omega) : (x < y → A) ∧ (¬ x < y → B) := by
  subst hx hy
  rw [nI_ltI ha hb]
  exact ⟨f, fun z => g (by omega)⟩
theorem pk_eq {x y : Int32} {A B : Prop} (a b : Nat) (f : a = b → A) (g : a ≠ b → B) (hx : x = nI a := by rfl) (hy : y = nI b := by rfl) (ha : a < 2 ^ 31 := by omega) (hb : b < 2 ^ 31 := by omega) : (x = y → A) ∧ (¬ x = y → B) := by
  subst hx hy
  rw [nI_eq ha hb]
  exact ⟨f, g⟩
theorem pk_in {x : Int32} (n N : Nat) (h : n < N) (hx : x = nI n := by rfl) (hN : N < 2 ^ 31 := by omega) : vp_in x N := by
  subst hx
  exact vp_in_nI h hN
theorem pk_cl {x : Int32} (n : Nat) (hx : x = nI n := by rfl) (h : n < 2 ^ 31 := by omega) : x.toNatClampNeg = n := by
  subst hx
  exact nI_clamp h
theorem pk_loop {σ : Type} (W : Nat → Nat → σ → Prop) (I : Nat → σ → Prop) (e i0 : Nat) (s : σ) (hi : i0 ≤ e) (h0 : I i0 s) (hx : ∀ n s, I e s → W (n + 1) e s)
    (hs : ∀ n i s, i < e → I i s → (∀ s', I (i + 1) s' → W n (i + 1) s') → W (n + 1) i s) : ∃ n, W n i0 s :=
  ⟨e + 1, loop_i W I e hx hs (e + 1) i0 s hi (by omega) h0⟩
end
section
/-! rows as lists; what a token gives -/
def qp_ql (n : Nat) (f : Nat → Int32) : List Int32 := (List.range n).map f
theorem qp_ql_len (n : Nat) (f : Nat → Int32) : (qp_ql n f).length = n := by simp [qp_ql]
theorem qp_ql_get {n k : Nat} {f : Nat → Int32} (h : k < n) : (qp_ql n f).getD k 0 = f k := by
  simp [qp_ql, List.getD_eq_getElem?_getD, List.getElem?_range h]
theorem qp_getD {l : List Int32} {k : Nat} (h : k < l.length) : l.getD k 0 = l[k] := by
  simp [List.getD_eq_getElem?_getD, h]
theorem qp_ext {l m : List Int32} (h : l.length = m.length) (g : ∀ k, k < l.length → l.getD k 0 = m.getD k 0) : l = m := by
  apply List.ext_getElem h
  intro i h1 h2
  have := g i h1
  rw [qp_getD h1, qp_getD h2] at this
  exact this
theorem qp_ql_ext {l : List Int32} {n : Nat} {f : Nat → Int32} (h : l.length = n) (g : ∀ k, k < n → l.getD k 0 = f k) : l = qp_ql n f := by
  apply qp_ext
  · rw [h, qp_ql_len]
  · intro k hk
    rw [qp_ql_get (by omega)]
    exact g k (by omega)
def qp_sum (f : Nat → Int32) : Nat → Int32
  | 0 => 0
  | n + 1 => qp_sum f n + f n
theorem qp_sum_congr {f g : Nat → Int32} : ∀ n, (∀ k, k < n → f k = g k) → qp_sum f n = qp_sum g n
  | 0, _ => rfl
  | n + 1, h => by
    show qp_sum f n + f n = qp_sum g n + g n
    rw [qp_sum_congr n (fun k hk => h k (by omega)), h n (by omega)]
/-- the most of the places 0 .. n -/
def qp_mx (f : Nat → Int32) : Nat → Int32
  | 0 => f 0
  | n + 1 => if f (n + 1) ≤ qp_mx f n then qp_mx f n else f (n + 1)
def qp_num (k : Nat) (n m : Int32) : Int32 :=
  if k = 3 then n + m else if k = 4 then n - m else if k = 5 then n * m
  else if k = 6 then (if m = 0 then 0 else n / m) else if k = 7 then (if m ≤ n then 0 else 1) else (if n = m then 1 else 0)
def qp_cl (x : Int32) : Nat := if x < 0 then 0 else if x ≤ 8 then x.toNatClampNeg else 8
def qp_srt (l : List Int32) : List Int32 := l.mergeSort (fun a b => decide (a ≤ b))
theorem qp_srt_len (l : List Int32) : (qp_srt l).length = l.length := (List.mergeSort_perm l _).length_eq
theorem qp_srt_eq {l m : List Int32} (hp : m.Perm l) (hs : m.Pairwise (fun a b => a ≤ b)) : m = qp_srt l := by
  apply List.Perm.eq_of_pairwise (le := fun a b : Int32 => a ≤ b)
  · intro a b _ _ h1 h2
    exact Int32.le_antisymm h1 h2
  · exact hs
  · have h := List.pairwise_mergeSort (le := fun a b : Int32 => decide (a ≤ b)) (fun a b c h1 h2 => by
      rw [decide_eq_true_eq] at *
      exact Int32.le_trans h1 h2) (fun a b => by
      rw [Bool.or_eq_true, decide_eq_true_eq, decide_eq_true_eq]
      exact Int32.le_total a b) l
    exact h.imp (fun h => by simpa using h)
  · exact hp.trans (List.mergeSort_perm l _).symm
def qp_op (k : Nat) (a b c : List Int32) : List Int32 :=
  if k < 9 then [qp_num k (a.getD 0 0) (b.getD 0 0)]
  else if k = 9 then [if a.getD 0 0 = 0 then c.getD 0 0 else b.getD 0 0]
  else if k = 10 then [nI a.length]
  else if k = 11 then [qp_sum (fun i => a.getD i 0) a.length]
  else if k = 12 then [if a.length = 0 then 0 else qp_mx (fun i => a.getD i 0) (a.length - 1)]
  else if k = 13 then [if b.getD 0 0 < 0 then 0 else if nI a.length ≤ b.getD 0 0 then 0 else a.getD (b.getD 0 0).toNatClampNeg 0]
  else if k = 14 then qp_ql (qp_cl (a.getD 0 0)) nI
  else if k = 15 then qp_ql (if a.length + b.length ≤ 8 then a.length + b.length else 8) (fun i => if i < a.length then a.getD i 0 else b.getD (i - a.length) 0)
  else if k = 16 then qp_ql a.length (fun i => a.getD (a.length - 1 - i) 0)
  else if k = 17 then qp_ql a.length (fun i => qp_sum (fun j => a.getD j 0) (i + 1))
  else qp_srt a
theorem qp_cl_le (x : Int32) : qp_cl x ≤ 8 := by
  unfold qp_cl
  split
  · omega
  · split
    · rename_i h0 h8
      obtain ⟨j, hj, rfl⟩ := nI_of h0
      have h : nI j ≤ nI 8 := h8
      rw [nI_leI hj (by decide)] at h
      rw [nI_clamp hj]
      exact h
    · omega
theorem qp_op_num {k : Nat} (h : k < 14) (a b c : List Int32) : (qp_op k a b c).length = 1 := by
  unfold qp_op
  repeat' split
  all_goals first | rfl | omega
theorem qp_op_row {k : Nat} (h : 14 ≤ k) (a b c : List Int32) (ha : a.length ≤ 8) : (qp_op k a b c).length ≤ 8 := by
  unfold qp_op
  repeat' split
  all_goals first | omega | skip
  all_goals first | (rw [qp_srt_len]; exact ha) | (rw [qp_ql_len]; first | exact qp_cl_le _ | omega)
/-- what a token takes, wants, gives -/
abbrev qp_blk (k : Nat) : Prop := k = 19 ∨ k = 20
def qp_tk (k : Nat) : Nat := if k < 3 then 0 else if k = 9 then 3 else if k < 9 ∨ k = 13 ∨ k = 15 then 2 else 1
def qp_wr (k j : Nat) : Bool := if k = 13 then decide (j = 0) else decide (9 < k ∧ k ≠ 14)
def qp_gv (k : Nat) : Bool := decide (k = 1 ∨ 14 ≤ k)
def qp_b (b : Bool) : Int32 := if b = true then 1 else 0
theorem qp_tk_le (k : Nat) : qp_tk k ≤ 3 := by unfold qp_tk; (repeat' split) <;> omega
theorem qp_tk_0 {k : Nat} (h : 3 ≤ k) : 1 ≤ qp_tk k := by
  unfold qp_tk
  rw [if_neg (by omega)]
  repeat' split
  all_goals omega
theorem qp_tk_z {k : Nat} (h : k < 3) : qp_tk k = 0 := if_pos h
/-- what is gathered at a block's end -/
def qp_g1 (kk : Nat) (e v : Int32) : List Int32 := if kk = 19 then [v] else if v = 0 then [] else [e]
theorem qp_g1_len (kk : Nat) (e v : Int32) : (qp_g1 kk e v).length ≤ 1 := by
  unfold qp_g1
  repeat' split
  all_goals simp
def qp_gather (kk : Nat) (f : Int32 → Int32) (l : List Int32) : List Int32 := l.flatMap (fun e => qp_g1 kk e (f e))
theorem qp_gather_len (kk : Nat) (f : Int32 → Int32) : ∀ l : List Int32, (qp_gather kk f l).length ≤ l.length
  | [] => by simp [qp_gather]
  | e :: l => by
    have h := qp_gather_len kk f l
    have h1 := qp_g1_len kk e (f e)
    have e1 : qp_gather kk f (e :: l) = qp_g1 kk e (f e) ++ qp_gather kk f l := rfl
    rw [e1, List.length_append, List.length_cons]
    omega
theorem qp_gather_nil (kk : Nat) (f : Int32 → Int32) : qp_gather kk f [] = [] := rfl
theorem qp_take_succ {l : List Int32} {m : Nat} (h : m < l.length) : l.take (m + 1) = l.take m ++ [l.getD m 0] := by
  rw [List.take_succ_eq_append_getElem h, qp_getD h]
theorem qp_gather_take {kk : Nat} {f : Int32 → Int32} {l : List Int32} {m : Nat} (h : m < l.length) :
    qp_gather kk f (l.take (m + 1)) = qp_gather kk f (l.take m) ++ qp_g1 kk (l.getD m 0) (f (l.getD m 0)) := by
  rw [qp_take_succ h]
  unfold qp_gather
  rw [List.flatMap_append]
  simp
theorem qp_gather_congr {kk : Nat} {f g : Int32 → Int32} {l : List Int32} (h : ∀ e, f e = g e) : qp_gather kk f l = qp_gather kk g l := by
  rw [show f = g from funext h]
theorem qp_app_lo {l m : List Int32} {k : Nat} (h : k < l.length) : (l ++ m).getD k 0 = l.getD k 0 := by
  simp [List.getD_eq_getElem?_getD, List.getElem?_append, h]
theorem qp_app_hi {l : List Int32} {x : Int32} : (l ++ [x]).getD l.length 0 = x := by
  simp [List.getD_eq_getElem?_getD]
end
section
/-! the state of a program after i tokens: blocks under way, height, which entries are rows, floors, where the blocks began; the denotations -/
def qo (K : Nat → Nat) : Nat → Nat
  | 0 => 0
  | i + 1 => if qp_blk (K i) then qo K i + 1 else if K i = 21 then qo K i - 1 else qo K i
def qh (K : Nat → Nat) : Nat → Nat
  | 0 => 0
  | i + 1 => if qp_blk (K i) then qh K i - 1 else if K i = 21 then qh K i else qh K i - qp_tk (K i) + 1
def qw (K : Nat → Nat) : Nat → Nat → Bool
  | 0 => fun _ => false
  | i + 1 => if qp_blk (K i) then qw K i else if K i = 21 then (fun e => if e = qh K i - 1 then true else qw K i e) else (fun e => if e = qh K i - qp_tk (K i) then qp_gv (K i) else qw K i e)
def qf (K : Nat → Nat) : Nat → Nat → Nat
  | 0 => fun _ => 0
  | i + 1 => if qp_blk (K i) then (fun b => if b = qo K i then qh K i - 1 else qf K i b) else qf K i
def qb (K : Nat → Nat) : Nat → Nat → Nat
  | 0 => fun _ => 0
  | i + 1 => if qp_blk (K i) then (fun b => if b = qo K i then i else qb K i b) else qb K i
abbrev qE : Type := Nat → Int32
abbrev qD : Type := qE → List Int32
def qval (k : Nat) (a : Int32) (inp : Nat → List Int32) (dn : Nat → qD) (f : Nat) : qD :=
  if k = 0 then (fun _ => [a]) else if k = 1 then (fun _ => inp a.toNatClampNeg) else if k = 2 then (fun env => [env a.toNatClampNeg])
  else (fun env => qp_op k (dn f env) (dn (f + 1) env) (dn (f + 2) env))
def qcol (kk b : Nat) (rd body : qD) : qD := fun env => qp_gather kk (fun e => (body (upd env b e)).getD 0 0) (rd env)
def qd (K : Nat → Nat) (A : Nat → Int32) (inp : Nat → List Int32) : Nat → (Nat → qD) × (Nat → qD)
  | 0 => (fun _ _ => [], fun _ _ => [])
  | i + 1 =>
    if qp_blk (K i) then ((qd K A inp i).1, fun b => if b = qo K i then (qd K A inp i).1 (qh K i - 1) else (qd K A inp i).2 b)
    else if K i = 21 then (fun e => if e = qh K i - 1 then qcol (K (qb K i (qo K i - 1))) (qo K i - 1) ((qd K A inp i).2 (qo K i - 1)) ((qd K A inp i).1 (qh K i - 1)) else (qd K A inp i).1 e, (qd K A inp i).2)
    else (fun e => if e = qh K i - qp_tk (K i) then qval (K i) (A i) inp (qd K A inp i).1 (qh K i - qp_tk (K i)) else (qd K A inp i).1 e, (qd K A inp i).2)
def qn (K : Nat → Nat) (A : Nat → Int32) (inp : Nat → List Int32) (i : Nat) : Nat → qD := (qd K A inp i).1
def qr (K : Nat → Nat) (A : Nat → Int32) (inp : Nat → List Int32) (i : Nat) : Nat → qD := (qd K A inp i).2
def qbase (K : Nat → Nat) (i : Nat) : Nat := if qo K i = 0 then 0 else qf K i (qo K i - 1)
/-- token i is one that may stand there -/
def qv (K : Nat → Nat) (A : Nat → Int32) (i : Nat) : Prop :=
  K i < 22 ∧ (K i = 1 → ∃ b, b < 3 ∧ A i = nI b) ∧ (K i = 2 → ∃ b, b < qo K i ∧ A i = nI b)
  ∧ (K i = 21 → 0 < qo K i ∧ qh K i = qf K i (qo K i - 1) + 1 ∧ qw K i (qh K i - 1) = false)
  ∧ (K i ≠ 21 → qbase K i + qp_tk (K i) ≤ qh K i ∧ ∀ j, j < qp_tk (K i) → qw K i (qh K i - qp_tk (K i) + j) = qp_wr (K i) j)
  ∧ (K i < 3 → qh K i < 6) ∧ (qp_blk (K i) → qo K i < 2)
section
variable {K : Nat → Nat} {A : Nat → Int32} {inp : Nat → List Int32} {i : Nat}
theorem qo_b (h : qp_blk (K i)) : qo K (i + 1) = qo K i + 1 := if_pos h
theorem qh_b (h : qp_blk (K i)) : qh K (i + 1) = qh K i - 1 := if_pos h
theorem qw_b (h : qp_blk (K i)) : qw K (i + 1) = qw K i := if_pos h
theorem qf_b (h : qp_blk (K i)) : qf K (i + 1) = fun b => if b = qo K i then qh K i - 1 else qf K i b := if_pos h
theorem qb_b (h : qp_blk (K i)) : qb K (i + 1) = fun b => if b = qo K i then i else qb K i b := if_pos h
theorem qn_b (h : qp_blk (K i)) : qn K A inp (i + 1) = qn K A inp i := by
  show (qd K A inp (i + 1)).1 = (qd K A inp i).1
  simp only [qd, if_pos h]
theorem qr_b (h : qp_blk (K i)) : qr K A inp (i + 1) = fun b => if b = qo K i then qn K A inp i (qh K i - 1) else qr K A inp i b := congrArg Prod.snd (if_pos h)
theorem qnb_e (h : K i = 21) : ¬ qp_blk (K i) := by intro z; rcases z with z | z <;> omega
theorem qo_e (h : K i = 21) : qo K (i + 1) = qo K i - 1 := (if_neg (qnb_e h)).trans (if_pos h)
theorem qh_e (h : K i = 21) : qh K (i + 1) = qh K i := (if_neg (qnb_e h)).trans (if_pos h)
theorem qw_e (h : K i = 21) : qw K (i + 1) = fun e => if e = qh K i - 1 then true else qw K i e := (if_neg (qnb_e h)).trans (if_pos h)
theorem qn_e (h : K i = 21) : qn K A inp (i + 1) = fun e => if e = qh K i - 1 then qcol (K (qb K i (qo K i - 1))) (qo K i - 1) (qr K A inp i (qo K i - 1)) (qn K A inp i (qh K i - 1)) else qn K A inp i e :=
  congrArg Prod.fst ((if_neg (qnb_e h)).trans (if_pos h))
theorem qr_e (h : K i = 21) : qr K A inp (i + 1) = qr K A inp i := by
  show (qd K A inp (i + 1)).2 = (qd K A inp i).2
  simp only [qd, if_neg (qnb_e h), if_pos h]
theorem qf_n (h : ¬ qp_blk (K i)) : qf K (i + 1) = qf K i := if_neg h
theorem qb_n (h : ¬ qp_blk (K i)) : qb K (i + 1) = qb K i := if_neg h
theorem qr_n (h : ¬ qp_blk (K i)) : qr K A inp (i + 1) = qr K A inp i := by
  by_cases e : K i = 21
  · exact qr_e e
  · show (qd K A inp (i + 1)).2 = (qd K A inp i).2
    simp only [qd, if_neg h, if_neg e]
theorem qo_s (h : ¬ qp_blk (K i)) (e : K i ≠ 21) : qo K (i + 1) = qo K i := (if_neg h).trans (if_neg e)
theorem qh_s (h : ¬ qp_blk (K i)) (e : K i ≠ 21) : qh K (i + 1) = qh K i - qp_tk (K i) + 1 := (if_neg h).trans (if_neg e)
theorem qw_s (h : ¬ qp_blk (K i)) (e : K i ≠ 21) : qw K (i + 1) = fun e => if e = qh K i - qp_tk (K i) then qp_gv (K i) else qw K i e := (if_neg h).trans (if_neg e)
theorem qn_s (h : ¬ qp_blk (K i)) (e : K i ≠ 21) : qn K A inp (i + 1) = fun e => if e = qh K i - qp_tk (K i) then qval (K i) (A i) inp (qn K A inp i) (qh K i - qp_tk (K i)) else qn K A inp i e :=
  congrArg Prod.fst ((if_neg h).trans (if_neg e))
end
/-- only the tokens ahead of i count -/
theorem q_congr {K K' : Nat → Nat} : ∀ i, (∀ j, j < i → K j = K' j) → qo K i = qo K' i ∧ qh K i = qh K' i ∧ qw K i = qw K' i ∧ qf K i = qf K' i ∧ qb K i = qb K' i
  | 0, _ => ⟨rfl, rfl, rfl, rfl, rfl⟩
  | i + 1, h => by
    obtain ⟨h1, h2, h3, h4, h5⟩ := q_congr i (fun j hj => h j (by omega))
    have hk := h i (by omega)
    refine ⟨?_, ?_, ?_, ?_, ?_⟩
    · simp only [qo, h1, hk]
    · simp only [qh, h2, hk]
    · simp only [qw, h2, h3, hk]
    · simp only [qf, h1, h2, h4, hk]
    · simp only [qb, h1, h5, hk]
theorem qv_congr {K K' : Nat → Nat} {A A' : Nat → Int32} {i : Nat} (h : ∀ j, j ≤ i → K j = K' j) (ha : A i = A' i) (v : qv K A i) : qv K' A' i := by
  obtain ⟨h1, h2, h3, h4, h5⟩ := q_congr (K := K) (K' := K') i (fun j hj => h j (by omega))
  unfold qv qbase at *
  rw [h1, h2, h3, h4, h i (by omega), ha] at v
  exact v
section
variable {K : Nat → Nat} {A : Nat → Int32} {inp : Nat → List Int32}
/-- heights and floors -/
def q_I1 (K : Nat → Nat) (i : Nat) : Prop := qh K i ≤ 6 ∧ qo K i ≤ 2 ∧ (∀ b, b < qo K i → qf K i b ≤ qh K i) ∧ (∀ b c, b ≤ c → c < qo K i → qf K i b ≤ qf K i c)
theorem q_base {i b : Nat} (I : q_I1 K i) (h : b < qo K i) : qf K i b ≤ qbase K i := by
  unfold qbase
  rw [if_neg (by omega)]
  exact I.2.2.2 b _ (by omega) (by omega)
theorem q_i1 : ∀ i, (∀ j, j < i → qv K A j) → q_I1 K i
  | 0, _ => by
    refine ⟨by show 0 ≤ 6; omega, by show 0 ≤ 2; omega, ?_, ?_⟩
    · intro b hb
      exact absurd hb (Nat.not_lt_zero b)
    · intro b c _ hc
      exact absurd hc (Nat.not_lt_zero c)
  | i + 1, V => by
    have I := q_i1 i (fun j hj => V j (by omega))
    have hb := fun b => q_base (b := b) I
    obtain ⟨I1, I2, I3, I4⟩ := I
    obtain ⟨v1, v2, v3, v4, v5, v6, v7⟩ := V i (by omega)
    by_cases hk : qp_blk (K i)
    · have h21 : K i ≠ 21 := by intro z; rcases hk with hk | hk <;> omega
      have ht : qp_tk (K i) = 1 := by rcases hk with hk | hk <;> rw [hk] <;> rfl
      have v5' := (v5 h21).1
      have v7' := v7 hk
      unfold q_I1
      rw [qh_b hk, qo_b hk, qf_b hk]
      refine ⟨by omega, by omega, ?_, ?_⟩
      · intro b hbo
        try dsimp only
        split
        · omega
        · have := hb b (by omega); omega
      · intro b c hbc hc
        try dsimp only
        by_cases e1 : b = qo K i
        · rw [if_pos e1, if_pos (by omega)]
          exact Nat.le_refl _
        · rw [if_neg e1]
          by_cases e2 : c = qo K i
          · rw [if_pos e2]
            have := hb b (by omega); omega
          · rw [if_neg e2]
            exact I4 b c hbc (by omega)
    · by_cases h21 : K i = 21
      · unfold q_I1
        obtain ⟨a1, a2, a3⟩ := v4 h21
        rw [qh_e h21, qo_e h21, qf_n hk]
        exact ⟨I1, by omega, fun b hb => I3 b (by omega), fun b c h1 h2 => I4 b c h1 (by omega)⟩
      · unfold q_I1
        have v5' := (v5 h21).1
        have ht : qp_tk (K i) = 0 → qh K i < 6 := by
          intro z
          refine v6 ?_
          by_cases z3 : K i < 3
          · exact z3
          · have := qp_tk_0 (k := K i) (by omega); omega
        rw [qh_s hk h21, qo_s hk h21, qf_n hk]
        refine ⟨by omega, I2, ?_, I4⟩
        intro b hbo
        have := hb b hbo
        omega
end
end
section
/-! the chain of blocks under way, lengths, what a denotation depends on -/
section
variable {K : Nat → Nat} {A : Nat → Int32} {inp : Nat → List Int32}
def q_I4 (K : Nat → Nat) (A : Nat → Int32) (inp : Nat → List Int32) (i b : Nat) : Prop :=
  qb K i b < i ∧ qp_blk (K (qb K i b)) ∧ qo K (qb K i b) = b ∧ qh K (qb K i b) = qf K i b + 1
  ∧ (∀ e, e < qf K i b → qn K A inp i e = qn K A inp (qb K i b) e) ∧ qr K A inp i b = qn K A inp (qb K i b) (qf K i b)
  ∧ (∀ c, c < b → qf K (qb K i b) c = qf K i c ∧ qb K (qb K i b) c = qb K i c ∧ qr K A inp (qb K i b) c = qr K A inp i c)
  ∧ (∀ k, qb K i b < k → k ≤ i → b < qo K k)
theorem q_i4 : ∀ i, (∀ j, j < i → qv K A j) → ∀ b, b < qo K i → q_I4 K A inp i b
  | 0, _ => fun b hb => absurd hb (Nat.not_lt_zero b)
  | i + 1, V => by
    have I := q_i4 i (fun j hj => V j (by omega))
    have J := q_i1 i (fun j hj => V j (by omega))
    have hB := fun b => q_base (b := b) J
    obtain ⟨J1, J2, J3, J4⟩ := J
    obtain ⟨v1, v2, v3, v4, v5, v6, v7⟩ := V i (by omega)
    intro b hb
    by_cases hk : qp_blk (K i)
    · have h21 : K i ≠ 21 := by intro z; rcases hk with hk | hk <;> omega
      have ht : qp_tk (K i) = 1 := by rcases hk with hk | hk <;> rw [hk] <;> rfl
      have v5' := (v5 h21).1
      have ho := qo_b hk
      rw [ho] at hb
      unfold q_I4
      rw [qf_b hk, qb_b hk, qn_b hk, qr_b hk]
      try dsimp only
      by_cases e : b = qo K i
      · subst e
        simp only [if_true]
        refine ⟨by omega, hk, by trivial, by omega, fun e _ => by trivial, by trivial, ?_, ?_⟩
        · intro c hc
          rw [if_neg (by omega), if_neg (by omega), if_neg (by omega)]
          exact ⟨rfl, rfl, rfl⟩
        · intro k h1 h2
          rw [show k = i + 1 from by omega, ho]
          omega
      · simp only [if_neg e]
        obtain ⟨a1, a2, a3, a4, a5, a6, a7, a8⟩ := I b (by omega)
        refine ⟨by omega, a2, a3, a4, a5, a6, ?_, ?_⟩
        · intro c hc
          rw [if_neg (by omega), if_neg (by omega), if_neg (by omega)]
          exact a7 c hc
        · intro k h1 h2
          by_cases z : k = i + 1
          · rw [z, ho]; omega
          · exact a8 k h1 (by omega)
    · have hbb : b < qo K i := by
        by_cases h21 : K i = 21
        · rw [qo_e h21] at hb; omega
        · rw [qo_s hk h21] at hb; exact hb
      obtain ⟨a1, a2, a3, a4, a5, a6, a7, a8⟩ := I b hbb
      unfold q_I4
      rw [qf_n hk, qb_n hk, qr_n hk]
      refine ⟨by omega, a2, a3, a4, ?_, a6, a7, ?_⟩
      · intro e he
        rw [← a5 e he]
        by_cases h21 : K i = 21
        · obtain ⟨w1, w2, w3⟩ := v4 h21
          rw [qo_e h21] at hb
          have := J4 b (qo K i - 1) (by omega) (by omega)
          rw [qn_e h21]
          exact if_neg (by omega)
        · have := hB b hbb
          have := (v5 h21).1
          rw [qn_s hk h21]
          exact if_neg (by omega)
      · intro k h1 h2
        by_cases z : k = i + 1
        · rw [z]; exact hb
        · exact a8 k h1 (by omega)
/-- lengths -/
def q_I2 (K : Nat → Nat) (A : Nat → Int32) (inp : Nat → List Int32) (i : Nat) : Prop :=
  (∀ e env, e < qh K i → (qw K i e = false → (qn K A inp i e env).length = 1) ∧ (qn K A inp i e env).length ≤ 8)
  ∧ (∀ b env, b < qo K i → (qr K A inp i b env).length ≤ 8)
theorem qval_len {k : Nat} {a : Int32} {dn : Nat → qD} {f : Nat} {env : qE} (hi : ∀ b, b < 3 → (inp b).length ≤ 8) (h1 : k = 1 → ∃ b, b < 3 ∧ a = nI b)
    (h : 3 ≤ k → (dn f env).length ≤ 8) : (qp_gv k = false → (qval k a inp dn f env).length = 1) ∧ (qval k a inp dn f env).length ≤ 8 := by
  unfold qval
  by_cases k0 : k = 0
  · rw [if_pos k0]; exact ⟨fun _ => rfl, by simp⟩
  · rw [if_neg k0]
    by_cases k1 : k = 1
    · rw [if_pos k1]
      obtain ⟨b, hb, e⟩ := h1 k1
      refine ⟨fun z => ?_, ?_⟩
      · rw [k1] at z; exact absurd z (by decide)
      · rw [e, nI_clamp (by omega)]; exact hi b hb
    · rw [if_neg k1]
      by_cases k2 : k = 2
      · rw [if_pos k2]; exact ⟨fun _ => rfl, by simp⟩
      · rw [if_neg k2]
        by_cases k14 : k < 14
        · have := qp_op_num k14 (dn f env) (dn (f + 1) env) (dn (f + 2) env)
          exact ⟨fun _ => this, by omega⟩
        · refine ⟨fun z => ?_, qp_op_row (by omega) _ _ _ (h (by omega))⟩
          unfold qp_gv at z
          rw [decide_eq_false_iff_not] at z
          omega
theorem q_i2 (hi : ∀ b, b < 3 → (inp b).length ≤ 8) : ∀ i, (∀ j, j < i → qv K A j) → q_I2 K A inp i
  | 0, _ => ⟨fun e _ he => absurd he (Nat.not_lt_zero e), fun b _ hb => absurd hb (Nat.not_lt_zero b)⟩
  | i + 1, V => by
    obtain ⟨I1, I2⟩ := q_i2 hi i (fun j hj => V j (by omega))
    obtain ⟨J1, J2, J3, J4⟩ := q_i1 i (fun j hj => V j (by omega))
    obtain ⟨v1, v2, v3, v4, v5, v6, v7⟩ := V i (by omega)
    by_cases hk : qp_blk (K i)
    · have h21 : K i ≠ 21 := by intro z; rcases hk with hk | hk <;> omega
      have ht : qp_tk (K i) = 1 := by rcases hk with hk | hk <;> rw [hk] <;> rfl
      have v5' := (v5 h21).1
      unfold q_I2
      rw [qh_b hk, qo_b hk, qw_b hk, qn_b hk, qr_b hk]
      refine ⟨fun e env he => I1 e env (by omega), fun b env hb => ?_⟩
      try dsimp only
      split
      · exact (I1 _ env (by omega)).2
      · exact I2 b env (by omega)
    · by_cases h21 : K i = 21
      · obtain ⟨w1, w2, w3⟩ := v4 h21
        unfold q_I2
        rw [qh_e h21, qo_e h21, qw_e h21, qn_e h21, qr_e h21]
        refine ⟨fun e env he => ?_, fun b env hb => I2 b env (by omega)⟩
        try dsimp only
        split
        · refine ⟨fun z => by simp at z, ?_⟩
          exact Nat.le_trans (qp_gather_len _ _ _) (I2 _ env (by omega))
        · exact I1 e env he
      · obtain ⟨w1, w2⟩ := v5 h21
        unfold q_I2
        rw [qh_s hk h21, qo_s hk h21, qw_s hk h21, qn_s hk h21, qr_n hk]
        refine ⟨fun e env he => ?_, I2⟩
        try dsimp only
        split
        · refine qval_len hi v2 (fun h3 => (I1 _ env ?_).2)
          have := qp_tk_0 h3
          omega
        · exact I1 e env (by omega)
/-- what a denotation depends on -/
def q_dep (m : Nat) (d : qD) : Prop := ∀ env env' : qE, (∀ c, c < m → env c = env' c) → d env = d env'
theorem q_dep_mono {m m' : Nat} {d : qD} (h : m ≤ m') (hd : q_dep m d) : q_dep m' d := fun env env' he => hd env env' (fun c hc => he c (by omega))
def q_I3 (K : Nat → Nat) (A : Nat → Int32) (inp : Nat → List Int32) (i : Nat) : Prop :=
  (∀ e, e < qh K i → q_dep (qo K i) (qn K A inp i e)) ∧ (∀ b, b < qo K i → q_dep b (qr K A inp i b)) ∧ (∀ b e, b < qo K i → e < qf K i b → q_dep b (qn K A inp i e))
theorem qval_dep {k m : Nat} {a : Int32} {dn : Nat → qD} {f : Nat} (h2 : k = 2 → ∃ b, b < m ∧ a = nI b) (hm : m ≤ 2)
    (h : ∀ j, j < qp_tk k → q_dep m (dn (f + j))) : q_dep m (qval k a inp dn f) := by
  intro env env' he
  unfold qval
  by_cases k0 : k = 0
  · rw [if_pos k0]
  · rw [if_neg k0]
    by_cases k1 : k = 1
    · rw [if_pos k1]
    · rw [if_neg k1]
      by_cases k2 : k = 2
      · rw [if_pos k2]
        obtain ⟨b, hb, e⟩ := h2 k2
        rw [e, nI_clamp (by omega), he b hb]
      · rw [if_neg k2]
        have d0 : dn f env = dn f env' := h 0 (qp_tk_0 (by omega)) env env' he
        by_cases t2 : 2 ≤ qp_tk k
        · have d1 : dn (f + 1) env = dn (f + 1) env' := h 1 (by omega) env env' he
          by_cases t3 : 3 ≤ qp_tk k
          · have d2 : dn (f + 2) env = dn (f + 2) env' := h 2 (by omega) env env' he
            rw [d0, d1, d2]
          · have k9 : k ≠ 9 := by intro z; rw [z] at t3; exact t3 (by decide)
            rw [d0, d1]
            unfold qp_op
            rw [if_neg k9, if_neg k9]
        · have hk : ¬ k < 9 ∧ k ≠ 9 ∧ k ≠ 13 ∧ k ≠ 15 := by
            unfold qp_tk at t2
            rw [if_neg (by omega)] at t2
            by_cases k9 : k = 9
            · rw [if_pos k9] at t2; omega
            · rw [if_neg k9] at t2
              by_cases z : k < 9 ∨ k = 13 ∨ k = 15
              · rw [if_pos z] at t2; omega
              · omega
          obtain ⟨z1, z2, z3, z4⟩ := hk
          rw [d0]
          unfold qp_op
          simp only [if_neg z1, if_neg z2, if_neg z3, if_neg z4]
theorem qcol_dep {kk b : Nat} {rd body : qD} (h1 : q_dep b rd) (h2 : q_dep (b + 1) body) : q_dep b (qcol kk b rd body) := by
  intro env env' he
  unfold qcol
  rw [h1 env env' he]
  refine qp_gather_congr fun e => ?_
  rw [h2 (upd env b e) (upd env' b e) fun c hc => ?_]
  unfold upd
  split
  · rfl
  · exact he c (by omega)
theorem q_i3 : ∀ i, (∀ j, j < i → qv K A j) → q_I3 K A inp i
  | 0, _ => ⟨fun e he => absurd he (Nat.not_lt_zero e), fun b hb => absurd hb (Nat.not_lt_zero b), fun b e hb => absurd hb (Nat.not_lt_zero b)⟩
  | i + 1, V => by
    obtain ⟨I1, I2, I3⟩ := q_i3 i (fun j hj => V j (by omega))
    have J := q_i1 i (fun j hj => V j (by omega))
    have hB := fun b => q_base (b := b) J
    obtain ⟨J1, J2, J3, J4⟩ := J
    obtain ⟨v1, v2, v3, v4, v5, v6, v7⟩ := V i (by omega)
    by_cases hk : qp_blk (K i)
    · have h21 : K i ≠ 21 := by intro z; rcases hk with hk | hk <;> omega
      have ht : qp_tk (K i) = 1 := by rcases hk with hk | hk <;> rw [hk] <;> rfl
      have v5' := (v5 h21).1
      unfold q_I3
      rw [qh_b hk, qo_b hk, qf_b hk, qn_b hk, qr_b hk]
      refine ⟨fun e he => q_dep_mono (by omega) (I1 e (by omega)), fun b hb => ?_, fun b e hb he => ?_⟩
      · try dsimp only
        split
        · rename_i z; rw [z]; exact I1 _ (by omega)
        · exact I2 b (by omega)
      · dsimp only at he
        by_cases z : b = qo K i
        · rw [if_pos z] at he; rw [z]; exact I1 e (by omega)
        · rw [if_neg z] at he; exact I3 b e (by omega) he
    · by_cases h21 : K i = 21
      · obtain ⟨w1, w2, w3⟩ := v4 h21
        unfold q_I3
        rw [qh_e h21, qo_e h21, qf_n hk, qn_e h21, qr_e h21]
        refine ⟨fun e he => ?_, fun b hb => I2 b (by omega), fun b e hb he => ?_⟩
        · try dsimp only
          split
          · have h2 := I1 (qh K i - 1) (by omega)
            refine qcol_dep (I2 _ (by omega)) ?_
            rw [show qo K i - 1 + 1 = qo K i from by omega]
            exact h2
          · exact I3 (qo K i - 1) e (by omega) (by omega)
        · have := J4 b (qo K i - 1) (by omega) (by omega)
          try dsimp only
          rw [if_neg (by omega)]
          exact I3 b e (by omega) he
      · obtain ⟨w1, w2⟩ := v5 h21
        unfold q_I3
        rw [qh_s hk h21, qo_s hk h21, qf_n hk, qn_s hk h21, qr_n hk]
        refine ⟨fun e he => ?_, I2, fun b e hb he => ?_⟩
        · try dsimp only
          split
          · exact qval_dep v3 J2 (fun j hj => I1 _ (by omega))
          · exact I1 e (by omega)
        · have := hB b hb
          try dsimp only
          rw [if_neg (by omega)]
          exact I3 b e hb he
end
end
section
/-! X: rows of index arithmetic, settle, pushes, lanes -/
theorem qa_m8 (n : Nat) : (8 : Int32) * nI n = nI (8 * n) := pk_mul 8 n
theorem qa_m64 (n : Nat) : (64 : Int32) * nI n = nI (64 * n) := pk_mul 64 n
theorem qa_m512 (n : Nat) : (512 : Int32) * nI n = nI (512 * n) := pk_mul 512 n
theorem qa_a384 (n : Nat) : (384 : Int32) + nI n = nI (384 + n) := nI_add 384 n
theorem qa_a64 (n : Nat) : (64 : Int32) + nI n = nI (64 + n) := nI_add 64 n
theorem qa_le {a b : Nat} (h : a ≤ b) (hb : b < 2 ^ 31 := by omega) : nI a ≤ nI b := nI_le h hb
theorem qa_nle {a b : Nat} (h : a < b) (hb : b < 2 ^ 31 := by omega) : ¬ nI b ≤ nI a := nI_ge h hb
section
variable {f_size f_height f_open f_depth f_level f_known f_resultSort f_resultSize : Int32} {a_inputSize a_inputs a_kind a_arg a_row a_begun a_levelOf a_head a_data a_lanes a_element a_outside a_blockKind a_results : Nat → Int32}
theorem qx_settle43 {post : SX → Prop} {J : Int32 → (Nat → Int32) → (Nat → Int32) → (Nat → Int32) → (Nat → Int32) → (Nat → Int32) → (Nat → Int32) → (Nat → Int32) → (Nat → Int32) → (Nat → Int32) → (Nat → Int32) → (Nat → Int32) → (Nat → Int32) → (Nat → Int32) → (Nat → Int32) → Prop} {x2 : Int32} (e ln : Nat) (he : e < 6) (hl : ln < 64)
    (H : ∀ dt : Nat → Int32, (∀ k, k < 8 → dt (8 * (64 * e + ln) + k) = a_data (8 * (384 + ln) + k)) → (∀ j, (j < 8 * (64 * e + ln) ∨ 8 * (64 * e + ln) + 8 ≤ j) → dt j = a_data j) → J (nI (ln + 1)) a_inputSize a_inputs a_kind a_arg a_row a_begun a_levelOf a_head dt a_lanes a_element a_outside a_blockKind a_results) :
    ∃ n, wX_settle_43 post J (nI e) x2 (nI ln) f_size f_height f_open f_depth f_level f_known f_resultSort f_resultSize n 0 a_inputSize a_inputs a_kind a_arg a_row a_begun a_levelOf a_head a_data a_lanes a_element a_outside a_blockKind a_results := by
  refine loop_0 (fun n i (dt : Nat → Int32) => wX_settle_43 post J (nI e) x2 (nI ln) f_size f_height f_open f_depth f_level f_known f_resultSort f_resultSize n (nI i) a_inputSize a_inputs a_kind a_arg a_row a_begun a_levelOf a_head dt a_lanes a_element a_outside a_blockKind a_results) (fun i dt => (∀ k, k < i → dt (8 * (64 * e + ln) + k) = a_data (8 * (384 + ln) + k)) ∧ (∀ j, (j < 8 * (64 * e + ln) ∨ 8 * (64 * e + ln) + i ≤ j) → dt j = a_data j)) 8 a_data ⟨fun k h => absurd h (Nat.not_lt_zero k), fun j _ => rfl⟩ ?_ ?_
  · intro n dt ⟨h1, h2⟩
    exact br_t (qa_le (a := 8) (b := 8) (by omega)) (nm_r (nI_1 ln) (H dt h1 h2))
  · intro n i dt hi ⟨h1, h2⟩ Kc
    refine br_f (qa_nle (b := 8) hi) ?_
    try simp (disch := omega) only [qa_m8, qa_m64, qa_m512, qa_a384, qa_a64, nI_add, nI_1, nI_clamp, vp_in_nI, true_and, forall_eq]
    refine Kc _ ⟨fun k hk => ?_, fun j hj => ?_⟩
    · by_cases z : k = i
      · rw [z, pk_us]; exact h2 _ (by omega)
      · rw [pk_un (by omega)]; exact h1 k (by omega)
    · rw [pk_un (by omega)]; exact h2 j (by omega)
theorem qx_settle9 {post : SX → Prop} (e at' N : Nat) (he : e < 6) (ha : at' < 3) (hN : a_lanes at' = nI N) (hN64 : N ≤ 64)
    (H : ∀ hd dt : Nat → Int32, (∀ ln, ln < N → hd (64 * e + ln) = a_head (384 + ln) ∧ ∀ k, k < 8 → dt (8 * (64 * e + ln) + k) = a_data (8 * (384 + ln) + k)) → (∀ j, (j < 64 * e ∨ 64 * e + 64 ≤ j) → hd j = a_head j) → (∀ j, (j < 512 * e ∨ 512 * e + 512 ≤ j) → dt j = a_data j) → post (f_size, f_height, f_open, f_depth, f_level, f_known, f_resultSort, f_resultSize, a_inputSize, a_inputs, a_kind, a_arg, a_row, a_begun, a_levelOf, hd, dt, a_lanes, a_element, a_outside, a_blockKind, a_results)) :
    ∃ n, wX_settle_9 post (nI e) (nI at') f_size f_height f_open f_depth f_level f_known f_resultSort f_resultSize n 0 a_inputSize a_inputs a_kind a_arg a_row a_begun a_levelOf a_head a_data a_lanes a_element a_outside a_blockKind a_results := by
  refine loop_0 (fun n i (s : (Nat → Int32) × (Nat → Int32)) => wX_settle_9 post (nI e) (nI at') f_size f_height f_open f_depth f_level f_known f_resultSort f_resultSize n (nI i) a_inputSize a_inputs a_kind a_arg a_row a_begun a_levelOf s.1 s.2 a_lanes a_element a_outside a_blockKind a_results) (fun i s => (∀ ln, ln < i → s.1 (64 * e + ln) = a_head (384 + ln) ∧ ∀ k, k < 8 → s.2 (8 * (64 * e + ln) + k) = a_data (8 * (384 + ln) + k)) ∧ (∀ j, (j < 64 * e ∨ 64 * e + i ≤ j) → s.1 j = a_head j) ∧ (∀ j, (j < 512 * e ∨ 512 * e + 8 * i ≤ j) → s.2 j = a_data j)) N (a_head, a_data) ⟨fun k h => absurd h (Nat.not_lt_zero k), fun j _ => rfl, fun j _ => rfl⟩ ?_ ?_
  · intro n ⟨hd, dt⟩ ⟨h1, h2, h3⟩
    dsimp only at h1 h2 h3 ⊢
    try simp (disch := omega) only [qa_m8, qa_m64, qa_m512, qa_a384, qa_a64, nI_add, nI_1, nI_clamp, vp_in_nI, true_and, forall_eq, wX_settle_9, hN]
    exact br_t (qa_le (Nat.le_refl N)) (H hd dt h1 (fun j hj => h2 j (by omega)) (fun j hj => h3 j (by omega)))
  · intro n i ⟨hd, dt⟩ hi ⟨h1, h2, h3⟩ Kc
    dsimp only at h1 h2 h3 ⊢
    try simp (disch := omega) only [qa_m8, qa_m64, qa_m512, qa_a384, qa_a64, nI_add, nI_1, nI_clamp, vp_in_nI, true_and, forall_eq, wX_settle_9, hN]
    refine br_f (qa_nle hi) ?_
    refine qx_settle43 e i he (by omega) (fun dt' g1 g2 => Kc (upd hd (64 * e + i) (hd (384 + i)), dt') ⟨fun ln hl => ?_, fun j hj => ?_, fun j hj => ?_⟩)
    · try dsimp only
      by_cases z : ln = i
      · subst z
        refine ⟨?_, fun k hk => ?_⟩
        · rw [pk_us]; exact h2 _ (by omega)
        · rw [g1 k hk]; exact h3 _ (by omega)
      · refine ⟨?_, fun k hk => ?_⟩
        · rw [pk_un (by omega)]; exact (h1 ln (by omega)).1
        · rw [g2 _ (by omega)]; exact (h1 ln (by omega)).2 k hk
    · try dsimp only
      rw [pk_un (by omega)]; exact h2 j (by omega)
    · try dsimp only
      rw [g2 _ (by omega)]; exact h3 j (by omega)
theorem qx_settle {post : SX → Prop} (e at' N : Nat) (he : e < 6) (ha : at' < 3) (hN : a_lanes at' = nI N) (hN64 : N ≤ 64)
    (H : ∀ hd dt : Nat → Int32, (∀ ln, ln < N → hd (64 * e + ln) = a_head (384 + ln) ∧ ∀ k, k < 8 → dt (8 * (64 * e + ln) + k) = a_data (8 * (384 + ln) + k)) → (∀ j, (j < 64 * e ∨ 64 * e + 64 ≤ j) → hd j = a_head j) → (∀ j, (j < 512 * e ∨ 512 * e + 512 ≤ j) → dt j = a_data j) → post (f_size, f_height, f_open, f_depth, f_level, f_known, f_resultSort, f_resultSize, a_inputSize, a_inputs, a_kind, a_arg, a_row, a_begun, upd a_levelOf e (nI at'), hd, dt, a_lanes, a_element, a_outside, a_blockKind, a_results)) :
    wpX_settle post (f_size, f_height, f_open, f_depth, f_level, f_known, f_resultSort, f_resultSize, a_inputSize, a_inputs, a_kind, a_arg, a_row, a_begun, a_levelOf, a_head, a_data, a_lanes, a_element, a_outside, a_blockKind, a_results) (nI e) (nI at') := by
  unfold wpX_settle
  try simp (disch := omega) only [qa_m8, qa_m64, qa_m512, qa_a384, qa_a64, nI_add, nI_1, nI_clamp, vp_in_nI, true_and, forall_eq]
  exact qx_settle9 e at' N he ha hN hN64 H
theorem qx_pushInput {post : SX → Prop} (d i len : Nat) (hd6 : d < 6) (hi : i < 3) (hl : len ≤ 8) (hs : a_inputSize i = nI len)
    (H : ∀ dt : Nat → Int32, (∀ k, k < len → dt (512 * d + k) = a_inputs (8 * i + k)) → (∀ j, (j < 512 * d ∨ 512 * d + 8 ≤ j) → dt j = a_data j) → post (f_size, f_height, f_open, nI (d + 1), f_level, f_known, f_resultSort, f_resultSize, a_inputSize, a_inputs, a_kind, a_arg, a_row, a_begun, upd a_levelOf d 0, upd a_head (64 * d) (nI len), dt, a_lanes, a_element, a_outside, a_blockKind, a_results)) :
    wpX_pushInput post (f_size, f_height, f_open, nI d, f_level, f_known, f_resultSort, f_resultSize, a_inputSize, a_inputs, a_kind, a_arg, a_row, a_begun, a_levelOf, a_head, a_data, a_lanes, a_element, a_outside, a_blockKind, a_results) (nI i) := by
  unfold wpX_pushInput
  try simp (disch := omega) only [qa_m8, qa_m64, qa_m512, qa_a384, qa_a64, nI_add, nI_1, nI_clamp, vp_in_nI, true_and, forall_eq, hs]
  refine loop_0 (fun n x (dt : Nat → Int32) => wX_pushInput_30 post (nI i) f_size f_height f_open (nI d) f_level f_known f_resultSort f_resultSize n (nI x) a_inputSize a_inputs a_kind a_arg a_row a_begun (upd a_levelOf d 0) (upd a_head (64 * d) (nI len)) dt a_lanes a_element a_outside a_blockKind a_results) (fun x dt => (∀ k, k < x → dt (512 * d + k) = a_inputs (8 * i + k)) ∧ (∀ j, (j < 512 * d ∨ 512 * d + x ≤ j) → dt j = a_data j)) len a_data ⟨fun k h => absurd h (Nat.not_lt_zero k), fun j _ => rfl⟩ ?_ ?_
  · intro n dt ⟨h1, h2⟩
    try dsimp only
    try simp (disch := omega) only [qa_m8, qa_m64, qa_m512, qa_a384, qa_a64, nI_add, nI_1, nI_clamp, vp_in_nI, true_and, forall_eq, wX_pushInput_30, hs]
    exact br_t (qa_le (Nat.le_refl len)) (H dt h1 (fun j hj => h2 j (by omega)))
  · intro n x dt hx ⟨h1, h2⟩ Kc
    try dsimp only
    try simp (disch := omega) only [qa_m8, qa_m64, qa_m512, qa_a384, qa_a64, nI_add, nI_1, nI_clamp, vp_in_nI, true_and, forall_eq, wX_pushInput_30, hs]
    refine br_f (qa_nle hx) ?_
    refine Kc _ ⟨fun k hk => ?_, fun j hj => ?_⟩
    · by_cases z : k = x
      · rw [z, pk_us]
      · rw [pk_un (by omega)]; exact h1 k (by omega)
    · rw [pk_un (by omega)]; exact h2 j (by omega)
theorem qx_pushElement {post : SX → Prop} (d b N : Nat) (hd6 : d < 6) (hb : b < 2) (hN : a_lanes (b + 1) = nI N) (hN64 : N ≤ 64)
    (H : ∀ hd : Nat → Int32, (∀ ln, ln < N → hd (64 * d + ln) = a_element (64 * b + ln)) → (∀ j, (j < 64 * d ∨ 64 * d + 64 ≤ j) → hd j = a_head j) → post (f_size, f_height, f_open, nI (d + 1), f_level, f_known, f_resultSort, f_resultSize, a_inputSize, a_inputs, a_kind, a_arg, a_row, a_begun, upd a_levelOf d (nI (b + 1)), hd, a_data, a_lanes, a_element, a_outside, a_blockKind, a_results)) :
    wpX_pushElement post (f_size, f_height, f_open, nI d, f_level, f_known, f_resultSort, f_resultSize, a_inputSize, a_inputs, a_kind, a_arg, a_row, a_begun, a_levelOf, a_head, a_data, a_lanes, a_element, a_outside, a_blockKind, a_results) (nI b) := by
  unfold wpX_pushElement
  try simp (disch := omega) only [qa_m8, qa_m64, qa_m512, qa_a384, qa_a64, nI_add, nI_1, nI_clamp, vp_in_nI, true_and, forall_eq]
  refine loop_0 (fun n x (hd : Nat → Int32) => wX_pushElement_16 post (nI b) (nI (b + 1)) f_size f_height f_open (nI d) f_level f_known f_resultSort f_resultSize n (nI x) a_inputSize a_inputs a_kind a_arg a_row a_begun (upd a_levelOf d (nI (b + 1))) hd a_data a_lanes a_element a_outside a_blockKind a_results) (fun x hd => (∀ ln, ln < x → hd (64 * d + ln) = a_element (64 * b + ln)) ∧ (∀ j, (j < 64 * d ∨ 64 * d + x ≤ j) → hd j = a_head j)) N a_head ⟨fun k h => absurd h (Nat.not_lt_zero k), fun j _ => rfl⟩ ?_ ?_
  · intro n hd ⟨h1, h2⟩
    try dsimp only
    try simp (disch := omega) only [qa_m8, qa_m64, qa_m512, qa_a384, qa_a64, nI_add, nI_1, nI_clamp, vp_in_nI, true_and, forall_eq, wX_pushElement_16, hN]
    exact br_t (qa_le (Nat.le_refl N)) (H hd h1 (fun j hj => h2 j (by omega)))
  · intro n x hd hx ⟨h1, h2⟩ Kc
    try dsimp only
    try simp (disch := omega) only [qa_m8, qa_m64, qa_m512, qa_a384, qa_a64, nI_add, nI_1, nI_clamp, vp_in_nI, true_and, forall_eq, wX_pushElement_16, hN]
    refine br_f (qa_nle hx) ?_
    refine Kc _ ⟨fun k hk => ?_, fun j hj => ?_⟩
    · by_cases z : k = x
      · rw [z, pk_us]
      · rw [pk_un (by omega)]; exact h1 k (by omega)
    · rw [pk_un (by omega)]; exact h2 j (by omega)
/-- lane ln of level at' is kept for entry e at its own lane -/
def qx_LA (lo ou : Nat → Int32) (e at' ln own : Nat) : Prop :=
  own < 64 ∧ ln < 64 ∧ ∃ lv, lv < 3 ∧ lo e = nI lv ∧ ((lv = at' ∧ own = ln) ∨ (lv ≠ at' ∧ lv = 0 ∧ own = 0) ∨ (lv ≠ at' ∧ lv ≠ 0 ∧ ou (64 + ln) = nI own))
theorem qx_laneAt {post : Int32 → Prop} (e at' ln own : Nat) (ha : at' < 3) (h : qx_LA a_levelOf a_outside e at' ln own) (H : post (nI own)) :
    wpX_laneAt post (f_size, f_height, f_open, f_depth, f_level, f_known, f_resultSort, f_resultSize, a_inputSize, a_inputs, a_kind, a_arg, a_row, a_begun, a_levelOf, a_head, a_data, a_lanes, a_element, a_outside, a_blockKind, a_results) (a_levelOf e) (nI at') (nI ln) := by
  obtain ⟨h1, h2, lv, hv, e1, h3⟩ := h
  unfold wpX_laneAt
  rw [e1]
  try dsimp only
  rcases h3 with ⟨a, b⟩ | ⟨a, b, c⟩ | ⟨a, b, c⟩
  · subst a b
    exact br_t rfl H
  · subst b c
    refine br_f (fun z => a ((nI_eq (by omega) (by omega)).mp z)) (br_t (by rfl) H)
  · refine br_f (fun z => a ((nI_eq (by omega) (by omega)).mp z)) (br_f (nI_ne0 (by omega) (by omega)) ?_)
    try simp (disch := omega) only [qa_m8, qa_m64, qa_m512, qa_a384, qa_a64, nI_add, nI_1, nI_clamp, vp_in_nI, true_and, forall_eq, c]
    exact H
theorem qx_number {post : Int32 → Prop} (e at' ln own : Nat) (he : e < 7) (ha : at' < 3) (h : qx_LA a_levelOf a_outside e at' ln own) (H : post (a_head (64 * e + own))) :
    wpX_number post (f_size, f_height, f_open, f_depth, f_level, f_known, f_resultSort, f_resultSize, a_inputSize, a_inputs, a_kind, a_arg, a_row, a_begun, a_levelOf, a_head, a_data, a_lanes, a_element, a_outside, a_blockKind, a_results) (nI e) (nI at') (nI ln) := by
  have h1 := h.1
  unfold wpX_number
  try simp (disch := omega) only [qa_m8, qa_m64, qa_m512, qa_a384, qa_a64, nI_add, nI_1, nI_clamp, vp_in_nI, true_and, forall_eq]
  refine qx_laneAt e at' ln own ha h ?_
  try simp (disch := omega) only [qa_m8, qa_m64, qa_m512, qa_a384, qa_a64, nI_add, nI_1, nI_clamp, vp_in_nI, true_and, forall_eq]
  exact H
theorem qx_cells {post : Int32 → Prop} (e at' ln own : Nat) (he : e < 7) (ha : at' < 3) (h : qx_LA a_levelOf a_outside e at' ln own) (H : post (nI (8 * (64 * e + own)))) :
    wpX_cells post (f_size, f_height, f_open, f_depth, f_level, f_known, f_resultSort, f_resultSize, a_inputSize, a_inputs, a_kind, a_arg, a_row, a_begun, a_levelOf, a_head, a_data, a_lanes, a_element, a_outside, a_blockKind, a_results) (nI e) (nI at') (nI ln) := by
  have h1 := h.1
  unfold wpX_cells
  try simp (disch := omega) only [qa_m8, qa_m64, qa_m512, qa_a384, qa_a64, nI_add, nI_1, nI_clamp, vp_in_nI, true_and, forall_eq]
  refine qx_laneAt e at' ln own ha h ?_
  try simp (disch := omega) only [qa_m8, qa_m64, qa_m512, qa_a384, qa_a64, nI_add, nI_1, nI_clamp, vp_in_nI, true_and, forall_eq]
  exact H
end
end
section
/-! X: sums, most, join, insertion, rearranging -/
theorem qa_s1 {n : Nat} (h : 1 ≤ n) : nI n - 1 = nI (n - 1) := pk_sub (a := n) (b := 1) h
theorem qa_m1 {n : Nat} (h : 1 ≤ n) : nI n + (-1) = nI (n - 1) := by
  obtain ⟨m, rfl⟩ : ∃ m, n = m + 1 := ⟨n - 1, by omega⟩
  exact pk_m1 m
/-- putting a value among a rising row -/
theorem qp_insert {acc : List Int32} {v : Int32} {p : Nat} (hp : p ≤ acc.length) (hs : acc.Pairwise (fun a b => a ≤ b)) (h1 : p = 0 ∨ acc.getD (p - 1) 0 ≤ v)
    (h2 : ∀ k, p ≤ k → k < acc.length → v < acc.getD k 0) :
    (acc.take p ++ v :: acc.drop p).length = acc.length + 1 ∧ (acc.take p ++ v :: acc.drop p).Perm (v :: acc) ∧ (acc.take p ++ v :: acc.drop p).Pairwise (fun a b => a ≤ b)
    ∧ (∀ k, k < p → (acc.take p ++ v :: acc.drop p).getD k 0 = acc.getD k 0) ∧ (acc.take p ++ v :: acc.drop p).getD p 0 = v
    ∧ (∀ k, p < k → k ≤ acc.length → (acc.take p ++ v :: acc.drop p).getD k 0 = acc.getD (k - 1) 0) := by
  have hl : (acc.take p).length = p := by rw [List.length_take]; omega
  refine ⟨?_, ?_, ?_, ?_, ?_, ?_⟩
  · rw [List.length_append, List.length_cons, hl, List.length_drop]; omega
  · have h := (List.perm_middle (a := v) (l₁ := acc.take p) (l₂ := acc.drop p))
    rw [List.take_append_drop] at h
    exact h
  · have hA : ∀ x, x ∈ acc.take p → x ≤ v := by
      intro x hx
      obtain ⟨k, hk, rfl⟩ := List.mem_iff_getElem.mp hx
      rw [List.getElem_take]
      rw [hl] at hk
      rcases h1 with h1 | h1
      · omega
      · by_cases z : k = p - 1
        · subst z
          rw [qp_getD (by omega)] at h1
          exact h1
        · have := (List.pairwise_iff_getElem.mp hs) k (p - 1) (by omega) (by omega) (by omega)
          rw [qp_getD (by omega)] at h1
          exact Int32.le_trans this h1
    have hB : ∀ x, x ∈ acc.drop p → v ≤ x := by
      intro x hx
      obtain ⟨k, hk, rfl⟩ := List.mem_iff_getElem.mp hx
      rw [List.length_drop] at hk
      rw [List.getElem_drop]
      have := h2 (p + k) (by omega) (by omega)
      rw [qp_getD (by omega)] at this
      exact Int32.le_of_lt this
    rw [List.pairwise_append, List.pairwise_cons]
    refine ⟨hs.take, ⟨hB, hs.drop⟩, ?_⟩
    intro a ha b hb
    rw [List.mem_cons] at hb
    rcases hb with rfl | hb
    · exact hA a ha
    · exact Int32.le_trans (hA a ha) (hB b hb)
  · intro k hk
    rw [qp_app_lo (by omega), qp_getD (by omega), qp_getD (by omega), List.getElem_take]
  · rw [List.getD_eq_getElem?_getD, List.getElem?_append_right (by omega), hl]
    simp
  · intro k hk hk2
    rw [List.getD_eq_getElem?_getD, List.getElem?_append_right (by omega), hl, List.getD_eq_getElem?_getD]
    obtain ⟨d, rfl⟩ : ∃ d, k = p + (d + 1) := ⟨k - p - 1, by omega⟩
    rw [show p + (d + 1) - p = d + 1 from by omega, List.getElem?_cons_succ, List.getElem?_drop]
    congr 2
theorem qp_ql_succ (n : Nat) (f : Nat → Int32) : qp_ql (n + 1) f = qp_ql n f ++ [f n] := by
  unfold qp_ql
  rw [List.range_succ, List.map_append]
  rfl
theorem qp_ql_self (l : List Int32) : qp_ql l.length (fun k => l.getD k 0) = l := (qp_ql_ext rfl (fun _ _ => rfl)).symm
section
variable {f_size f_height f_open f_depth f_level f_known f_resultSort f_resultSize : Int32} {a_inputSize a_inputs a_kind a_arg a_row a_begun a_levelOf a_head a_data a_lanes a_element a_outside a_blockKind a_results : Nat → Int32}
theorem qx_sumOf {post : Int32 → Prop} (fr m : Nat) (f : Nat → Int32) (hf : fr + 8 ≤ 3584) (hm : m ≤ 8) (h : ∀ k, k < m → a_data (fr + k) = f k) (H : post (qp_sum f m)) :
    wpX_sumOf post (f_size, f_height, f_open, f_depth, f_level, f_known, f_resultSort, f_resultSize, a_inputSize, a_inputs, a_kind, a_arg, a_row, a_begun, a_levelOf, a_head, a_data, a_lanes, a_element, a_outside, a_blockKind, a_results) (nI fr) (nI m) := by
  unfold wpX_sumOf
  try dsimp only
  refine loop_0 (fun n x (s : Int32) => wX_sumOf_5 post (nI fr) (nI m) f_size f_height f_open f_depth f_level f_known f_resultSort f_resultSize a_inputSize a_inputs a_kind a_arg a_row a_begun a_levelOf a_head a_data a_lanes a_element a_outside a_blockKind a_results n s (nI x)) (fun x s => s = qp_sum f x) m 0 rfl ?_ ?_
  · intro n s hs
    try dsimp only
    subst hs
    exact br_t (qa_le (Nat.le_refl m)) H
  · intro n x s hx hs Kc
    try dsimp only
    try simp (disch := omega) only [qa_m8, qa_m64, qa_m512, qa_a384, qa_a64, nI_add, nI_1, nI_clamp, vp_in_nI, true_and, forall_eq, wX_sumOf_5]
    refine br_f (qa_nle hx) (Kc _ ?_)
    rw [hs, h x hx]
    rfl
theorem qx_mostOf {post : Int32 → Prop} (fr m : Nat) (f : Nat → Int32) (hf : fr + 8 ≤ 3584) (hm : m ≤ 8) (h : ∀ k, k < m → a_data (fr + k) = f k)
    (H : post (if m = 0 then 0 else qp_mx f (m - 1))) : wpX_mostOf post (f_size, f_height, f_open, f_depth, f_level, f_known, f_resultSort, f_resultSize, a_inputSize, a_inputs, a_kind, a_arg, a_row, a_begun, a_levelOf, a_head, a_data, a_lanes, a_element, a_outside, a_blockKind, a_results) (nI fr) (nI m) := by
  unfold wpX_mostOf
  try dsimp only
  by_cases z : m = 0
  · subst z
    refine br_t (by decide) ⟨1, ?_⟩
    exact br_t (by decide) H
  · rw [if_neg z] at H
    refine br_f (nI_nle (by omega) (by omega)) ?_
    try simp (disch := omega) only [qa_m8, qa_m64, qa_m512, qa_a384, qa_a64, nI_add, nI_1, nI_clamp, vp_in_nI, true_and, forall_eq]
    refine pk_loop (fun n x (s : Int32) => wX_mostOf_18 post (nI fr) (nI m) f_size f_height f_open f_depth f_level f_known f_resultSort f_resultSize a_inputSize a_inputs a_kind a_arg a_row a_begun a_levelOf a_head a_data a_lanes a_element a_outside a_blockKind a_results n s (nI x)) (fun x s => 1 ≤ x ∧ s = qp_mx f (x - 1)) m 1 (a_data fr) (by omega) ⟨Nat.le_refl 1, h 0 (by omega)⟩ ?_ ?_
    · intro n s ⟨_, hs⟩
      try dsimp only
      subst hs
      exact br_t (qa_le (Nat.le_refl m)) H
    · intro n x s hx ⟨h1, hs⟩ Kc
      obtain ⟨y, rfl⟩ : ∃ y, x = y + 1 := ⟨x - 1, by omega⟩
      try dsimp only
      try simp (disch := omega) only [qa_m8, qa_m64, qa_m512, qa_a384, qa_a64, nI_add, nI_1, nI_clamp, vp_in_nI, true_and, forall_eq, wX_mostOf_18, h (y + 1) hx]
      refine br_f (qa_nle hx) ?_
      have hs' : s = qp_mx f y := hs
      subst hs'
      have e1 : qp_mx f (y + 1) = if f (y + 1) ≤ qp_mx f y then qp_mx f y else f (y + 1) := rfl
      refine br_c (fun g => Kc _ ⟨by omega, ?_⟩) (fun g => Kc _ ⟨by omega, ?_⟩)
      · show qp_mx f y = qp_mx f (y + 1)
        rw [e1, if_pos g]
      · show f (y + 1) = qp_mx f (y + 1)
        rw [e1, if_neg g]
theorem qx_join31 {post : SX → Prop} (sp fr fr2 la m : Nat) (hs : 384 ≤ sp ∧ sp < 448) (hf : fr + 8 ≤ 3072) (hf2 : fr2 + 8 ≤ 3072) (hm : m ≤ 8) (hl : la ≤ 8) (hm2 : m ≤ la + 8)
    (H : ∀ dt : Nat → Int32, (∀ k, k < m → dt (8 * sp + k) = if k < la then a_data (fr + k) else a_data (fr2 + (k - la))) → (∀ j, (j < 8 * sp ∨ 8 * sp + 8 ≤ j) → dt j = a_data j) → post (f_size, f_height, f_open, f_depth, f_level, f_known, f_resultSort, f_resultSize, a_inputSize, a_inputs, a_kind, a_arg, a_row, a_begun, a_levelOf, a_head, dt, a_lanes, a_element, a_outside, a_blockKind, a_results)) :
    ∃ n, wX_joinRows_31 post (nI sp) (nI fr) (nI la) (nI fr2) (nI m) f_size f_height f_open f_depth f_level f_known f_resultSort f_resultSize n 0 a_inputSize a_inputs a_kind a_arg a_row a_begun a_levelOf a_head a_data a_lanes a_element a_outside a_blockKind a_results := by
  refine loop_0 (fun n x (dt : Nat → Int32) => wX_joinRows_31 post (nI sp) (nI fr) (nI la) (nI fr2) (nI m) f_size f_height f_open f_depth f_level f_known f_resultSort f_resultSize n (nI x) a_inputSize a_inputs a_kind a_arg a_row a_begun a_levelOf a_head dt a_lanes a_element a_outside a_blockKind a_results) (fun x dt => (∀ k, k < x → dt (8 * sp + k) = if k < la then a_data (fr + k) else a_data (fr2 + (k - la))) ∧ (∀ j, (j < 8 * sp ∨ 8 * sp + x ≤ j) → dt j = a_data j)) m a_data ⟨fun k h => absurd h (Nat.not_lt_zero k), fun j _ => rfl⟩ ?_ ?_
  · intro n dt ⟨h1, h2⟩
    exact br_t (qa_le (Nat.le_refl m)) (H dt h1 (fun j hj => h2 j (by omega)))
  · intro n x dt hx ⟨h1, h2⟩ Kc
    refine br_f (qa_nle hx) ?_
    by_cases z : la ≤ x
    · refine br_t (qa_le z) ?_
      try simp (disch := omega) only [qa_m8, qa_m64, qa_m512, qa_a384, qa_a64, nI_add, nI_1, nI_clamp, vp_in_nI, true_and, forall_eq, pk_sub]
      refine Kc _ ⟨fun k hk => ?_, fun j hj => ?_⟩
      · by_cases zk : k = x
        · rw [zk, pk_us, if_neg (by omega), h2 _ (by omega)]
          congr 1
          omega
        · rw [pk_un (by omega)]; exact h1 k (by omega)
      · rw [pk_un (by omega)]; exact h2 j (by omega)
    · refine br_f (qa_nle (by omega)) ?_
      try simp (disch := omega) only [qa_m8, qa_m64, qa_m512, qa_a384, qa_a64, nI_add, nI_1, nI_clamp, vp_in_nI, true_and, forall_eq]
      refine Kc _ ⟨fun k hk => ?_, fun j hj => ?_⟩
      · by_cases zk : k = x
        · rw [zk, pk_us, if_pos (by omega), h2 _ (by omega)]
        · rw [pk_un (by omega)]; exact h1 k (by omega)
      · rw [pk_un (by omega)]; exact h2 j (by omega)
theorem qx_joinRows {post : SX → Prop} (sp fr fr2 la lb m : Nat) (hs : 384 ≤ sp ∧ sp < 448) (hf : fr + 8 ≤ 3072) (hf2 : fr2 + 8 ≤ 3072) (hl : la ≤ 8) (hb : lb ≤ 8) (hm : m = if la + lb ≤ 8 then la + lb else 8)
    (H : ∀ dt : Nat → Int32, (∀ k, k < m → dt (8 * sp + k) = if k < la then a_data (fr + k) else a_data (fr2 + (k - la))) → (∀ j, (j < 8 * sp ∨ 8 * sp + 8 ≤ j) → dt j = a_data j) → post (f_size, f_height, f_open, f_depth, f_level, f_known, f_resultSort, f_resultSize, a_inputSize, a_inputs, a_kind, a_arg, a_row, a_begun, a_levelOf, upd a_head sp (nI m), dt, a_lanes, a_element, a_outside, a_blockKind, a_results)) :
    wpX_joinRows post (f_size, f_height, f_open, f_depth, f_level, f_known, f_resultSort, f_resultSize, a_inputSize, a_inputs, a_kind, a_arg, a_row, a_begun, a_levelOf, a_head, a_data, a_lanes, a_element, a_outside, a_blockKind, a_results) (nI sp) (nI fr) (nI la) (nI lb) (nI fr2) := by
  unfold wpX_joinRows
  try simp (disch := omega) only [qa_m8, qa_m64, qa_m512, qa_a384, qa_a64, nI_add, nI_1, nI_clamp, vp_in_nI, true_and, forall_eq]
  by_cases z : la + lb ≤ 8
  · rw [if_pos z] at hm
    subst hm
    refine br_t (qa_le (b := 8) z) ?_
    unfold wX_joinRows_18
    try simp (disch := omega) only [qa_m8, qa_m64, qa_m512, qa_a384, qa_a64, nI_add, nI_1, nI_clamp, vp_in_nI, true_and, forall_eq]
    exact qx_join31 sp fr fr2 la _ hs hf hf2 z hl (by omega) H
  · rw [if_neg z] at hm
    subst hm
    refine br_f (qa_nle (a := 8) (by omega)) ?_
    unfold wX_joinRows_18
    try simp (disch := omega) only [qa_m8, qa_m64, qa_m512, qa_a384, qa_a64, nI_add, nI_1, nI_clamp, vp_in_nI, true_and, forall_eq]
    exact qx_join31 sp fr fr2 la 8 hs hf hf2 (by omega) hl (by omega) H
theorem qx_insert3 {post : SX → Prop} (base c : Nat) (v : Int32) (acc : List Int32) (hb : base + 8 ≤ 3584) (hc : c < 8) (hl : acc.length = c) (hs : acc.Pairwise (fun a b => a ≤ b)) (ha : ∀ k, k < c → a_data (base + k) = acc.getD k 0)
    (H : ∀ (acc' : List Int32) (dt : Nat → Int32), acc'.length = c + 1 → acc'.Perm (v :: acc) → acc'.Pairwise (fun a b => a ≤ b) → (∀ k, k < c + 1 → dt (base + k) = acc'.getD k 0) → (∀ j, (j < base ∨ base + c + 1 ≤ j) → dt j = a_data j) → post (f_size, f_height, f_open, f_depth, f_level, f_known, f_resultSort, f_resultSize, a_inputSize, a_inputs, a_kind, a_arg, a_row, a_begun, a_levelOf, a_head, dt, a_lanes, a_element, a_outside, a_blockKind, a_results)) :
    ∀ (p : Nat) (dt : Nat → Int32), p ≤ c → (∀ k, k < p → dt (base + k) = acc.getD k 0) → (∀ k, p < k → k ≤ c → dt (base + k) = acc.getD (k - 1) 0) → (∀ k, p ≤ k → k < c → v < acc.getD k 0) → (∀ j, (j < base ∨ base + c + 1 ≤ j) → dt j = a_data j) →
    wX_insert_3 post (nI base) v f_size f_height f_open f_depth f_level f_known f_resultSort f_resultSize (p + 1) (nI p) a_inputSize a_inputs a_kind a_arg a_row a_begun a_levelOf a_head dt a_lanes a_element a_outside a_blockKind a_results := by
  have fin : ∀ (p : Nat) (dt : Nat → Int32), p ≤ c → (p = 0 ∨ acc.getD (p - 1) 0 ≤ v) → (∀ k, k < p → dt (base + k) = acc.getD k 0) → (∀ k, p < k → k ≤ c → dt (base + k) = acc.getD (k - 1) 0) → (∀ k, p ≤ k → k < c → v < acc.getD k 0) → (∀ j, (j < base ∨ base + c + 1 ≤ j) → dt j = a_data j) →
      wX_insert_49 post (nI base) v (nI p) f_size f_height f_open f_depth f_level f_known f_resultSort f_resultSize a_inputSize a_inputs a_kind a_arg a_row a_begun a_levelOf a_head dt a_lanes a_element a_outside a_blockKind a_results := by
    intro p dt hp h0 h1 h2 h3 h4
    unfold wX_insert_49
    try simp (disch := omega) only [qa_m8, qa_m64, qa_m512, qa_a384, qa_a64, nI_add, nI_1, nI_clamp, vp_in_nI, true_and, forall_eq]
    obtain ⟨g1, g2, g3, g4, g5, g6⟩ := qp_insert (acc := acc) (v := v) (p := p) (by omega) hs h0 (fun k k1 k2 => h3 k k1 (by omega))
    refine H _ _ (by rw [g1, hl]) g2 g3 (fun k hk => ?_) (fun j hj => ?_)
    · by_cases z : k = p
      · rw [z, pk_us, g5]
      · rw [pk_un (by omega)]
        by_cases z2 : k < p
        · rw [g4 k z2, h1 k z2]
        · rw [g6 k (by omega) (by omega), h2 k (by omega) (by omega)]
    · rw [pk_un (by omega)]; exact h4 j hj
  intro p
  induction p with
  | zero =>
    intro dt hp h1 h2 h3 h4
    exact br_t (by decide) (fin 0 dt hp (Or.inl rfl) h1 h2 h3 h4)
  | succ p ih =>
    intro dt hp h1 h2 h3 h4
    refine br_f (nI_nle (by omega) (by omega)) ?_
    have e1 := h1 p (by omega)
    try simp (disch := omega) only [qa_m8, qa_m64, qa_m512, qa_a384, qa_a64, nI_add, nI_1, nI_clamp, vp_in_nI, true_and, forall_eq, qa_s1, qa_m1, Nat.add_succ_sub_one, Nat.add_sub_cancel]
    simp only [show base + (p + 1) - 1 = base + p from by omega, e1]
    refine br_c (fun g => ?_) (fun g => ?_)
    · exact fin (p + 1) dt hp (Or.inr g) h1 h2 h3 h4
    · refine ih _ (by omega) (fun k hk => ?_) (fun k k1 k2 => ?_) (fun k k1 k2 => ?_) (fun j hj => ?_)
      · rw [pk_un (by omega)]; exact h1 k (by omega)
      · by_cases z : k = p + 1
        · rw [z, pk_us]; rfl
        · rw [pk_un (by omega)]; exact h2 k (by omega) k2
      · by_cases z : k = p
        · rw [z]; exact Int32.not_le.mp g
        · exact h3 k (by omega) k2
      · rw [pk_un (by omega)]; exact h4 j hj
theorem qx_insert {post : SX → Prop} (base c : Nat) (v : Int32) (acc : List Int32) (hb : base + 8 ≤ 3584) (hc : c < 8) (hl : acc.length = c) (hs : acc.Pairwise (fun a b => a ≤ b)) (ha : ∀ k, k < c → a_data (base + k) = acc.getD k 0)
    (H : ∀ (acc' : List Int32) (dt : Nat → Int32), acc'.length = c + 1 → acc'.Perm (v :: acc) → acc'.Pairwise (fun a b => a ≤ b) → (∀ k, k < c + 1 → dt (base + k) = acc'.getD k 0) → (∀ j, (j < base ∨ base + c + 1 ≤ j) → dt j = a_data j) → post (f_size, f_height, f_open, f_depth, f_level, f_known, f_resultSort, f_resultSize, a_inputSize, a_inputs, a_kind, a_arg, a_row, a_begun, a_levelOf, a_head, dt, a_lanes, a_element, a_outside, a_blockKind, a_results)) :
    wpX_insert post (f_size, f_height, f_open, f_depth, f_level, f_known, f_resultSort, f_resultSize, a_inputSize, a_inputs, a_kind, a_arg, a_row, a_begun, a_levelOf, a_head, a_data, a_lanes, a_element, a_outside, a_blockKind, a_results) (nI base) (nI c) v := by
  unfold wpX_insert
  exact ⟨c + 1, qx_insert3 base c v acc hb hc hl hs ha H c a_data (Nat.le_refl c) ha (fun k k1 k2 => absurd k2 (by omega)) (fun k k1 k2 => absurd k2 (by omega)) (fun j _ => rfl)⟩
theorem qx_rearrange {post : SX → Prop} (k sp fr m : Nat) (l : List Int32) (hk : 16 ≤ k ∧ k < 19) (hs : 384 ≤ sp ∧ sp < 448) (hf : fr + 8 ≤ 3072) (hm : m ≤ 8) (hl : l.length = m) (h : ∀ x, x < m → a_data (fr + x) = l.getD x 0)
    (H : ∀ dt : Nat → Int32, (∀ x, x < m → dt (8 * sp + x) = (qp_op k l [] []).getD x 0) → (∀ j, (j < 8 * sp ∨ 8 * sp + 8 ≤ j) → dt j = a_data j) → post (f_size, f_height, f_open, f_depth, f_level, f_known, f_resultSort, f_resultSize, a_inputSize, a_inputs, a_kind, a_arg, a_row, a_begun, a_levelOf, upd a_head sp (nI m), dt, a_lanes, a_element, a_outside, a_blockKind, a_results)) :
    wpX_rearrange post (f_size, f_height, f_open, f_depth, f_level, f_known, f_resultSort, f_resultSize, a_inputSize, a_inputs, a_kind, a_arg, a_row, a_begun, a_levelOf, a_head, a_data, a_lanes, a_element, a_outside, a_blockKind, a_results) (nI k) (nI sp) (nI fr) (nI m) := by
  unfold wpX_rearrange
  try simp (disch := omega) only [qa_m8, qa_m64, qa_m512, qa_a384, qa_a64, nI_add, nI_1, nI_clamp, vp_in_nI, true_and, forall_eq]
  have hend : ∀ (n : Nat) (s : Int32) (dt : Nat → Int32), post (f_size, f_height, f_open, f_depth, f_level, f_known, f_resultSort, f_resultSize, a_inputSize, a_inputs, a_kind, a_arg, a_row, a_begun, a_levelOf, upd a_head sp (nI m), dt, a_lanes, a_element, a_outside, a_blockKind, a_results) → wX_rearrange_14 post (nI k) (nI sp) (nI fr) (nI m) (n + 1) s (nI m) f_size f_height f_open f_depth f_level f_known f_resultSort f_resultSize a_inputSize a_inputs a_kind a_arg a_row a_begun a_levelOf (upd a_head sp (nI m)) dt a_lanes a_element a_outside a_blockKind a_results :=
    fun n s dt hp => br_t (qa_le (Nat.le_refl m)) hp
  by_cases k16 : k = 16
  · subst k16
    refine loop_0 (fun n x (s : Int32 × (Nat → Int32)) => wX_rearrange_14 post (nI 16) (nI sp) (nI fr) (nI m) n s.1 (nI x) f_size f_height f_open f_depth f_level f_known f_resultSort f_resultSize a_inputSize a_inputs a_kind a_arg a_row a_begun a_levelOf (upd a_head sp (nI m)) s.2 a_lanes a_element a_outside a_blockKind a_results) (fun x s => (∀ y, y < x → s.2 (8 * sp + (m - 1 - y)) = l.getD y 0) ∧ (∀ j, (j < 8 * sp ∨ 8 * sp + 8 ≤ j) → s.2 j = a_data j)) m (0, a_data) ⟨fun y hy => absurd hy (Nat.not_lt_zero y), fun j _ => rfl⟩ ?_ ?_
    · intro n ⟨s, dt⟩ ⟨h1, h2⟩
      dsimp only at h1 h2 ⊢
      refine hend n s dt (H dt (fun x hx => ?_) h2)
      have e1 : qp_op 16 l [] [] = qp_ql l.length (fun i => l.getD (l.length - 1 - i) 0) := rfl
      rw [e1, hl, qp_ql_get hx, ← h1 (m - 1 - x) (by omega)]
      congr 1
      omega
    · intro n x ⟨s, dt⟩ hx ⟨h1, h2⟩ Kc
      dsimp only at h1 h2 ⊢
      refine br_f (qa_nle hx) ?_
      have e1 : dt (fr + x) = l.getD x 0 := by rw [h2 _ (by omega), h x hx]
      try simp (disch := omega) only [qa_m8, qa_m64, qa_m512, qa_a384, qa_a64, nI_add, nI_1, nI_clamp, vp_in_nI, true_and, forall_eq, qa_s1, pk_sub, e1]
      refine br_t (by rfl) ?_
      refine Kc (s + l.getD x 0, upd dt (8 * sp + m - 1 - x) (l.getD x 0)) ⟨fun y hy => ?_, fun j hj => ?_⟩
      · try dsimp only
        by_cases z : y = x
        · subst z
          rw [show 8 * sp + m - 1 - y = 8 * sp + (m - 1 - y) from by omega, pk_us]
        · rw [pk_un (by omega)]; exact h1 y (by omega)
      · try dsimp only
        rw [pk_un (by omega)]; exact h2 j hj
  · by_cases k17 : k = 17
    · subst k17
      refine loop_0 (fun n x (s : Int32 × (Nat → Int32)) => wX_rearrange_14 post (nI 17) (nI sp) (nI fr) (nI m) n s.1 (nI x) f_size f_height f_open f_depth f_level f_known f_resultSort f_resultSize a_inputSize a_inputs a_kind a_arg a_row a_begun a_levelOf (upd a_head sp (nI m)) s.2 a_lanes a_element a_outside a_blockKind a_results) (fun x s => s.1 = qp_sum (fun j => l.getD j 0) x ∧ (∀ y, y < x → s.2 (8 * sp + y) = qp_sum (fun j => l.getD j 0) (y + 1)) ∧ (∀ j, (j < 8 * sp ∨ 8 * sp + 8 ≤ j) → s.2 j = a_data j)) m (0, a_data) ⟨rfl, fun y hy => absurd hy (Nat.not_lt_zero y), fun j _ => rfl⟩ ?_ ?_
      · intro n ⟨s, dt⟩ ⟨h0, h1, h2⟩
        dsimp only at h0 h1 h2 ⊢
        refine hend n s dt (H dt (fun x hx => ?_) h2)
        have e1 : qp_op 17 l [] [] = qp_ql l.length (fun i => qp_sum (fun j => l.getD j 0) (i + 1)) := rfl
        rw [e1, hl, qp_ql_get hx, h1 x hx]
      · intro n x ⟨s, dt⟩ hx ⟨h0, h1, h2⟩ Kc
        dsimp only at h0 h1 h2 ⊢
        refine br_f (qa_nle hx) ?_
        have e1 : dt (fr + x) = l.getD x 0 := by rw [h2 _ (by omega), h x hx]
        try simp (disch := omega) only [qa_m8, qa_m64, qa_m512, qa_a384, qa_a64, nI_add, nI_1, nI_clamp, vp_in_nI, true_and, forall_eq, e1]
        refine br_f (fun z => absurd ((nI_eq (b := 16) (by omega) (by omega)).mp z) (by omega)) (br_t (by rfl) ?_)
        have e2 : s + l.getD x 0 = qp_sum (fun j => l.getD j 0) (x + 1) := by rw [h0]; rfl
        refine Kc (s + l.getD x 0, upd dt (8 * sp + x) (s + l.getD x 0)) ⟨e2, fun y hy => ?_, fun j hj => ?_⟩
        · try dsimp only
          by_cases z : y = x
          · subst z
            rw [pk_us, e2]
          · rw [pk_un (by omega)]; exact h1 y (by omega)
        · try dsimp only
          rw [pk_un (by omega)]; exact h2 j hj
    · refine loop_0 (fun n x (s : Int32 × (Nat → Int32)) => wX_rearrange_14 post (nI k) (nI sp) (nI fr) (nI m) n s.1 (nI x) f_size f_height f_open f_depth f_level f_known f_resultSort f_resultSize a_inputSize a_inputs a_kind a_arg a_row a_begun a_levelOf (upd a_head sp (nI m)) s.2 a_lanes a_element a_outside a_blockKind a_results) (fun x s => (∃ acc : List Int32, acc.length = x ∧ acc.Perm (qp_ql x (fun j => l.getD j 0)) ∧ acc.Pairwise (fun a b => a ≤ b) ∧ (∀ y, y < x → s.2 (8 * sp + y) = acc.getD y 0)) ∧ (∀ j, (j < 8 * sp ∨ 8 * sp + 8 ≤ j) → s.2 j = a_data j)) m (0, a_data) ⟨⟨[], rfl, List.Perm.refl _, List.Pairwise.nil, fun y hy => absurd hy (Nat.not_lt_zero y)⟩, fun j _ => rfl⟩ ?_ ?_
      · intro n ⟨s, dt⟩ ⟨⟨acc, a1, a2, a3, a4⟩, h2⟩
        dsimp only at a4 h2 ⊢
        refine hend n s dt (H dt (fun x hx => ?_) h2)
        have e1 : qp_op k l [] [] = qp_srt l := by
          have : k = 18 := by omega
          rw [this]
          rfl
        rw [e1, a4 x hx]
        subst hl
        rw [qp_ql_self] at a2
        rw [qp_srt_eq a2 a3]
      · intro n x ⟨s, dt⟩ hx ⟨⟨acc, a1, a2, a3, a4⟩, h2⟩ Kc
        dsimp only at a4 h2 ⊢
        refine br_f (qa_nle hx) ?_
        have e1 : dt (fr + x) = l.getD x 0 := by rw [h2 _ (by omega), h x hx]
        try simp (disch := omega) only [qa_m8, qa_m64, qa_m512, qa_a384, qa_a64, nI_add, nI_1, nI_clamp, vp_in_nI, true_and, forall_eq, e1]
        refine br_f (fun z => absurd ((nI_eq (b := 16) (by omega) (by omega)).mp z) (by omega)) (br_f (fun z => absurd ((nI_eq (b := 17) (by omega) (by omega)).mp z) (by omega)) ?_)
        refine qx_insert (8 * sp) x (l.getD x 0) acc (by omega) (by omega) a1 a3 a4 (fun acc' dt' b1 b2 b3 b4 b5 => ?_)
        refine Kc (s + l.getD x 0, dt') ⟨⟨acc', b1, ?_, b3, b4⟩, fun j hj => ?_⟩
        · rw [qp_ql_succ]
          refine b2.trans ((List.Perm.cons _ a2).trans ?_)
          exact (List.perm_append_singleton _ _).symm
        · try dsimp only
          rw [b5 j (by omega)]
          exact h2 j hj
end
end
section
/-! X: small static methods; a token worked out for one lane -/
theorem qx_taken {post : Int32 → Prop} (k : Nat) (hk : k < 22) (H : post (nI (qp_tk k))) : wpX_taken post (nI k) := by
  have fin : ∀ t, qp_tk k = t → post (nI t) := fun t e => by rw [← e]; exact H
  refine pk_lt 2 k (fun h => ?_) (fun h => fin 0 (by unfold qp_tk; (repeat' split) <;> omega))
  refine pk_eq k 9 (fun h9 => fin 3 (by unfold qp_tk; (repeat' split) <;> omega)) (fun h9 => ?_)
  refine pk_le k 8 (fun h8 => fin 2 (by unfold qp_tk; (repeat' split) <;> omega)) (fun h8 => ?_)
  refine pk_eq k 13 (fun h9 => fin 2 (by unfold qp_tk; (repeat' split) <;> omega)) (fun h13 => ?_)
  exact pk_eq k 15 (fun h9 => fin 2 (by unfold qp_tk; (repeat' split) <;> omega)) (fun h15 => fin 1 (by unfold qp_tk; (repeat' split) <;> omega))
theorem qp_wr_t {k j : Nat} (h : k ≠ 13) (h9 : 9 < k) (h14 : k ≠ 14) : qp_b (qp_wr k j) = 1 := by
  unfold qp_wr; rw [if_neg h, decide_eq_true ⟨h9, h14⟩]; rfl
theorem qp_wr_f {k j : Nat} (h : k ≤ 9 ∨ k = 14) : qp_b (qp_wr k j) = 0 := by
  unfold qp_wr; rw [if_neg (by omega), decide_eq_false (by omega)]; rfl
theorem qx_takesRow {post : Int32 → Prop} (k j : Nat) (hk : k < 21) (hj : j < 3) (H : post (qp_b (qp_wr k j))) : wpX_takesRow post (nI k) (nI j) := by
  have t1 : k ≠ 13 → 9 < k → k ≠ 14 → post 1 := fun a b c => by rw [qp_wr_t a b c] at H; exact H
  have t0 : (k ≤ 9 ∨ k = 14) → post 0 := fun a => by rw [qp_wr_f a] at H; exact H
  refine pk_lt k 10 (fun h => t0 (by omega)) (fun h10 => ?_)
  refine pk_lt 20 k (fun h => absurd h (by omega)) (fun h20 => ?_)
  refine pk_eq k 10 (fun h => t1 (by omega) (by omega) (by omega)) (fun n10 => ?_)
  refine pk_eq k 11 (fun h => t1 (by omega) (by omega) (by omega)) (fun n11 => ?_)
  refine pk_eq k 12 (fun h => t1 (by omega) (by omega) (by omega)) (fun n12 => ?_)
  refine pk_eq k 13 (fun h => ?_) (fun n13 => ?_)
  · subst h
    refine pk_eq j 0 (fun h => ?_) (fun h => ?_)
    · subst h; exact H
    · have : qp_b (qp_wr 13 j) = 0 := by unfold qp_wr; rw [if_pos rfl, decide_eq_false h]; rfl
      rw [this] at H; exact H
  refine pk_eq k 14 (fun h => t0 (by omega)) (fun n14 => ?_)
  refine pk_eq k 15 (fun h => t1 (by omega) (by omega) (by omega)) (fun n15 => ?_)
  refine pk_eq k 16 (fun h => t1 (by omega) (by omega) (by omega)) (fun n16 => ?_)
  refine pk_eq k 17 (fun h => t1 (by omega) (by omega) (by omega)) (fun n17 => ?_)
  refine pk_eq k 18 (fun h => t1 (by omega) (by omega) (by omega)) (fun n18 => ?_)
  refine pk_eq k 19 (fun h => t1 (by omega) (by omega) (by omega)) (fun n19 => ?_)
  exact pk_eq k 20 (fun h => t1 (by omega) (by omega) (by omega)) (fun n20 => trivial)
theorem qx_worked {post : Int32 → Prop} (k : Nat) (n m : Int32) (h3 : 3 ≤ k) (h9 : k < 9) (H : post (qp_num k n m)) : wpX_worked post (nI k) n m := by
  refine pk_lt k 3 (fun h => absurd h (by omega)) (fun _ => ?_)
  refine pk_lt 7 k (fun h => ?_) (fun h7 => ?_)
  · have e : k = 8 := by omega
    subst e
    exact br_c (fun e => by have e2 : qp_num 8 n m = 1 := if_pos e
                            rw [e2] at H; exact H) (fun e => by have e2 : qp_num 8 n m = 0 := if_neg e
                                                                rw [e2] at H; exact H)
  refine pk_eq k 3 (fun h => by subst h; exact H) (fun n3 => ?_)
  refine pk_eq k 4 (fun h => by subst h; exact H) (fun n4 => ?_)
  refine pk_eq k 5 (fun h => by subst h; exact H) (fun n5 => ?_)
  refine pk_eq k 6 (fun h => ?_) (fun n6 => ?_)
  · subst h
    exact br_c (fun e => by have e2 : qp_num 6 n m = 0 := if_pos e
                            rw [e2] at H; exact H) (fun e => ⟨e, by have e2 : qp_num 6 n m = n / m := if_neg e
                                                                    rw [e2] at H; exact H⟩)
  refine pk_eq k 7 (fun h => ?_) (fun n7 => trivial)
  subst h
  exact br_c (fun e => by have e2 : qp_num 7 n m = 0 := if_pos e
                          rw [e2] at H; exact H) (fun e => by have e2 : qp_num 7 n m = 1 := if_neg e
                                                              rw [e2] at H; exact H)
/-- a value as X keeps it for a lane -/
def qx_Rep (hd dt : Nat → Int32) (e ln : Nat) (w : Bool) (l : List Int32) : Prop :=
  (w = true → hd (64 * e + ln) = nI l.length ∧ ∀ k, k < l.length → dt (8 * (64 * e + ln) + k) = l.getD k 0) ∧ (w = false → hd (64 * e + ln) = l.getD 0 0)
theorem qx_RepN {hd dt : Nat → Int32} {e ln : Nat} {l : List Int32} (h : hd (64 * e + ln) = l.getD 0 0) : qx_Rep hd dt e ln false l := ⟨fun z => absurd z (by decide), fun _ => h⟩
theorem qx_RepR {hd dt : Nat → Int32} {e ln : Nat} {l : List Int32} (h : hd (64 * e + ln) = nI l.length) (h2 : ∀ k, k < l.length → dt (8 * (64 * e + ln) + k) = l.getD k 0) : qx_Rep hd dt e ln true l := ⟨fun _ => ⟨h, h2⟩, fun z => absurd z (by decide)⟩
theorem qp_gv_f {k : Nat} (h : k ≠ 1) (h2 : k < 14) : qp_gv k = false := decide_eq_false (by omega)
theorem qp_gv_t {k : Nat} (h : 14 ≤ k) : qp_gv k = true := decide_eq_true (by omega)
/-- only the spare value's lane is touched -/
def qx_Fr (hd dt hd' dt' : Nat → Int32) (ln : Nat) : Prop := (∀ j, j ≠ 384 + ln → hd' j = hd j) ∧ (∀ j, (j < 8 * (384 + ln) ∨ 8 * (384 + ln) + 8 ≤ j) → dt' j = dt j)
theorem qp_op_hi {k : Nat} (h : 16 ≤ k) (a b c : List Int32) : qp_op k a b c = if k = 16 then qp_ql a.length (fun i => a.getD (a.length - 1 - i) 0) else if k = 17 then qp_ql a.length (fun i => qp_sum (fun j => a.getD j 0) (i + 1)) else qp_srt a := by
  unfold qp_op
  rw [if_neg (by omega), if_neg (by omega), if_neg (by omega), if_neg (by omega), if_neg (by omega), if_neg (by omega), if_neg (by omega), if_neg (by omega)]
theorem qp_op_lt {k : Nat} (h : k < 9) (a b c : List Int32) : qp_op k a b c = [qp_num k (a.getD 0 0) (b.getD 0 0)] := if_pos h
section
variable {f_size f_height f_open f_depth f_level f_known f_resultSort f_resultSize : Int32} {a_inputSize a_inputs a_kind a_arg a_row a_begun a_levelOf a_head a_data a_lanes a_element a_outside a_blockKind a_results : Nat → Int32}
theorem qx_upd1 {ln : Nat} {x : Int32} : qx_Fr a_head a_data (upd a_head (384 + ln) x) a_data ln := ⟨fun j hj => pk_un hj, fun j _ => rfl⟩
theorem qx_up61 {post : SX → Prop} (ln m : Nat) (hl : ln < 64) (hm : m ≤ 8)
    (H : ∀ dt : Nat → Int32, (∀ k, k < m → dt (8 * (384 + ln) + k) = nI k) → (∀ j, (j < 8 * (384 + ln) ∨ 8 * (384 + ln) + 8 ≤ j) → dt j = a_data j) → post (f_size, f_height, f_open, f_depth, f_level, f_known, f_resultSort, f_resultSize, a_inputSize, a_inputs, a_kind, a_arg, a_row, a_begun, a_levelOf, upd a_head (384 + ln) (nI m), dt, a_lanes, a_element, a_outside, a_blockKind, a_results)) :
    wX_overNumbers_47 post (nI (384 + ln)) (nI m) f_size f_height f_open f_depth f_level f_known f_resultSort f_resultSize a_inputSize a_inputs a_kind a_arg a_row a_begun a_levelOf a_head a_data a_lanes a_element a_outside a_blockKind a_results := by
  unfold wX_overNumbers_47
  try simp (disch := omega) only [qa_m8, qa_m64, qa_m512, qa_a384, qa_a64, nI_add, nI_1, nI_clamp, vp_in_nI, true_and, forall_eq]
  refine loop_0 (fun n x (dt : Nat → Int32) => wX_overNumbers_61 post (nI (384 + ln)) (nI m) f_size f_height f_open f_depth f_level f_known f_resultSort f_resultSize n (nI x) a_inputSize a_inputs a_kind a_arg a_row a_begun a_levelOf (upd a_head (384 + ln) (nI m)) dt a_lanes a_element a_outside a_blockKind a_results) (fun x dt => (∀ k, k < x → dt (8 * (384 + ln) + k) = nI k) ∧ (∀ j, (j < 8 * (384 + ln) ∨ 8 * (384 + ln) + 8 ≤ j) → dt j = a_data j)) m a_data ⟨fun k h => absurd h (Nat.not_lt_zero k), fun j _ => rfl⟩ ?_ ?_
  · intro n dt ⟨h1, h2⟩
    exact br_t (qa_le (Nat.le_refl m)) (H dt h1 h2)
  · intro n x dt hx ⟨h1, h2⟩ Kc
    refine br_f (qa_nle hx) ?_
    try simp (disch := omega) only [qa_m8, qa_m64, qa_m512, qa_a384, qa_a64, nI_add, nI_1, nI_clamp, vp_in_nI, true_and, forall_eq]
    refine Kc _ ⟨fun k hk => ?_, fun j hj => ?_⟩
    · by_cases z : k = x
      · rw [z, pk_us]
      · rw [pk_un (by omega)]; exact h1 k (by omega)
    · rw [pk_un (by omega)]; exact h2 j hj
theorem qx_overNumbers {post : SX → Prop} (k e at' ln o0 o1 o2 : Nat) (a b c : List Int32) (hk : (3 ≤ k ∧ k < 10) ∨ k = 14) (he : e + qp_tk k ≤ 6) (ha : at' < 3) (hl : ln < 64)
    (h0 : qx_LA a_levelOf a_outside e at' ln o0) (r0 : a_head (64 * e + o0) = a.getD 0 0)
    (h1 : 2 ≤ qp_tk k → qx_LA a_levelOf a_outside (e + 1) at' ln o1 ∧ a_head (64 * (e + 1) + o1) = b.getD 0 0)
    (h2 : 3 ≤ qp_tk k → qx_LA a_levelOf a_outside (e + 2) at' ln o2 ∧ a_head (64 * (e + 2) + o2) = c.getD 0 0)
    (H : ∀ hd dt : Nat → Int32, qx_Rep hd dt 6 ln (qp_gv k) (qp_op k a b c) → qx_Fr a_head a_data hd dt ln → post (f_size, f_height, f_open, f_depth, f_level, f_known, f_resultSort, f_resultSize, a_inputSize, a_inputs, a_kind, a_arg, a_row, a_begun, a_levelOf, hd, dt, a_lanes, a_element, a_outside, a_blockKind, a_results)) :
    wpX_overNumbers post (f_size, f_height, f_open, f_depth, f_level, f_known, f_resultSort, f_resultSize, a_inputSize, a_inputs, a_kind, a_arg, a_row, a_begun, a_levelOf, a_head, a_data, a_lanes, a_element, a_outside, a_blockKind, a_results) (nI k) (nI e) (nI at') (nI ln) := by
  have ht := qp_tk_0 (k := k) (by omega)
  unfold wpX_overNumbers
  try simp (disch := omega) only [qa_m8, qa_m64, qa_m512, qa_a384, qa_a64, nI_add, nI_1, nI_clamp, vp_in_nI, true_and, forall_eq]
  refine qx_number e at' ln o0 (by omega) ha h0 ?_
  rw [r0]
  refine pk_eq k 14 (fun e14 => ?_) (fun n14 => ?_)
  · subst e14
    have fin : ∀ m, m = qp_cl (a.getD 0 0) → wX_overNumbers_47 post (nI (384 + ln)) (nI m) f_size f_height f_open f_depth f_level f_known f_resultSort f_resultSize a_inputSize a_inputs a_kind a_arg a_row a_begun a_levelOf a_head a_data a_lanes a_element a_outside a_blockKind a_results := by
      intro m em
      have hm : m ≤ 8 := by rw [em]; exact qp_cl_le _
      have e1 : qp_op 14 a b c = qp_ql m nI := by rw [em]; rfl
      refine qx_up61 ln m hl hm (fun dt g1 g2 => H _ dt ?_ ⟨fun j hj => pk_un hj, g2⟩)
      rw [e1]
      refine qx_RepR ?_ ?_
      · rw [qp_ql_len]; exact pk_us
      · intro x hx
        rw [qp_ql_len] at hx
        rw [qp_ql_get hx]
        exact g1 x hx
    refine br_c (fun g => ?_) (fun g => ?_)
    · have g0 : ¬ a.getD 0 0 < 0 := Int32.not_lt.mpr g
      refine br_c (fun g8 => ?_) (fun g8 => ?_)
      · have e2 : qp_cl (a.getD 0 0) = (a.getD 0 0).toNatClampNeg := by unfold qp_cl; rw [if_neg g0, if_pos g8]
        obtain ⟨j, hj, ej⟩ := nI_of g0
        rw [ej, nI_clamp hj] at e2
        rw [ej]
        rw [ej] at fin
        exact fin j e2.symm
      · exact fin 8 (by unfold qp_cl; rw [if_neg g0, if_neg g8])
    · exact fin 0 (by unfold qp_cl; rw [if_pos (Int32.not_le.mp g)])
  · refine pk_eq k 9 (fun e9 => ?_) (fun n9 => ?_)
    · subst e9
      obtain ⟨l1, r1⟩ := h1 (by decide)
      obtain ⟨l2, r2⟩ := h2 (by decide)
      have he' : e + 3 ≤ 6 := he
      refine br_c (fun g => ?_) (fun g => ?_)
      · rw [show nI e + 2 = nI (e + 2) from nI_add e 2]
        refine qx_number (e + 2) at' ln o2 (by omega) ha l2 ?_
        try simp (disch := omega) only [qa_m8, qa_m64, qa_m512, qa_a384, qa_a64, nI_add, nI_1, nI_clamp, vp_in_nI, true_and, forall_eq]
        refine H _ _ (qx_RepN ?_) qx_upd1
        rw [pk_us, r2]
        show _ = (if a.getD 0 0 = 0 then c.getD 0 0 else b.getD 0 0)
        rw [if_pos g]
      · try simp (disch := omega) only [qa_m8, qa_m64, qa_m512, qa_a384, qa_a64, nI_add, nI_1, nI_clamp, vp_in_nI, true_and, forall_eq]
        refine qx_number (e + 1) at' ln o1 (by omega) ha l1 ?_
        try simp (disch := omega) only [qa_m8, qa_m64, qa_m512, qa_a384, qa_a64, nI_add, nI_1, nI_clamp, vp_in_nI, true_and, forall_eq]
        refine H _ _ (qx_RepN ?_) qx_upd1
        rw [pk_us, r1]
        show _ = (if a.getD 0 0 = 0 then c.getD 0 0 else b.getD 0 0)
        rw [if_neg g]
    · have h9 : k < 9 := by omega
      have ht2 : qp_tk k = 2 := by unfold qp_tk; (repeat' split) <;> omega
      obtain ⟨l1, r1⟩ := h1 (by omega)
      try simp (disch := omega) only [qa_m8, qa_m64, qa_m512, qa_a384, qa_a64, nI_add, nI_1, nI_clamp, vp_in_nI, true_and, forall_eq]
      refine qx_number (e + 1) at' ln o1 (by omega) ha l1 ?_
      rw [r1]
      refine qx_worked k _ _ (by omega) h9 ?_
      try simp (disch := omega) only [qa_m8, qa_m64, qa_m512, qa_a384, qa_a64, nI_add, nI_1, nI_clamp, vp_in_nI, true_and, forall_eq]
      refine H _ _ ?_ qx_upd1
      rw [qp_gv_f (by omega) (by omega), qp_op_lt h9]
      exact qx_RepN pk_us
theorem qx_overRow {post : SX → Prop} (k e at' ln o0 o1 : Nat) (a b : List Int32) (hk : 10 ≤ k ∧ k < 19 ∧ k ≠ 14) (he : e + qp_tk k ≤ 6) (ha : at' < 3) (hl : ln < 64)
    (h0 : qx_LA a_levelOf a_outside e at' ln o0) (r0 : a_head (64 * e + o0) = nI a.length) (s0 : ∀ x, x < a.length → a_data (8 * (64 * e + o0) + x) = a.getD x 0) (m0 : a.length ≤ 8)
    (h1 : 2 ≤ qp_tk k → qx_LA a_levelOf a_outside (e + 1) at' ln o1)
    (h13 : k = 13 → a_head (64 * (e + 1) + o1) = b.getD 0 0)
    (h15 : k = 15 → a_head (64 * (e + 1) + o1) = nI b.length ∧ b.length ≤ 8 ∧ ∀ x, x < b.length → a_data (8 * (64 * (e + 1) + o1) + x) = b.getD x 0)
    (H : ∀ hd dt : Nat → Int32, qx_Rep hd dt 6 ln (qp_gv k) (qp_op k a b []) → qx_Fr a_head a_data hd dt ln → post (f_size, f_height, f_open, f_depth, f_level, f_known, f_resultSort, f_resultSize, a_inputSize, a_inputs, a_kind, a_arg, a_row, a_begun, a_levelOf, hd, dt, a_lanes, a_element, a_outside, a_blockKind, a_results)) :
    wpX_overRow post (f_size, f_height, f_open, f_depth, f_level, f_known, f_resultSort, f_resultSize, a_inputSize, a_inputs, a_kind, a_arg, a_row, a_begun, a_levelOf, a_head, a_data, a_lanes, a_element, a_outside, a_blockKind, a_results) (nI k) (nI e) (nI at') (nI ln) := by
  have ht := qp_tk_0 (k := k) (by omega)
  have o0l := h0.1
  have he6 : e < 6 := by omega
  unfold wpX_overRow
  try simp (disch := omega) only [qa_m8, qa_m64, qa_m512, qa_a384, qa_a64, nI_add, nI_1, nI_clamp, vp_in_nI, true_and, forall_eq]
  refine qx_number e at' ln o0 (by omega) ha h0 ?_
  refine qx_cells e at' ln o0 (by omega) ha h0 ?_
  rw [r0]
  have re : 16 ≤ k → wX_overRow_205 post (nI k) (nI (384 + ln)) (nI a.length) (nI (8 * (64 * e + o0))) f_size f_height f_open f_depth f_level f_known f_resultSort f_resultSize a_inputSize a_inputs a_kind a_arg a_row a_begun a_levelOf a_head a_data a_lanes a_element a_outside a_blockKind a_results := by
    intro h16
    unfold wX_overRow_205
    refine qx_rearrange k (384 + ln) (8 * (64 * e + o0)) a.length a (by omega) (by omega) (by omega) m0 rfl s0 (fun dt g1 g2 => ?_)
    have e1 : qp_op k a [] [] = qp_op k a b [] := by
      rw [qp_op_hi h16, qp_op_hi h16]
    have e2 : (qp_op k a b []).length = a.length := by
      rw [qp_op_hi h16]
      split
      · rw [qp_ql_len]
      · split
        · rw [qp_ql_len]
        · rw [qp_srt_len]
    refine H _ dt ?_ ⟨fun j hj => pk_un hj, g2⟩
    rw [qp_gv_t (by omega)]
    refine qx_RepR ?_ ?_
    · rw [e2]; exact pk_us
    · intro x hx
      rw [← e1]
      exact g1 x (by omega)
  refine pk_lt k 10 (fun h => absurd h (by omega)) (fun _ => ?_)
  refine pk_lt 15 k (fun h => re (by omega)) (fun _ => ?_)
  have num : ∀ v, qp_op k a b [] = [v] → k < 14 → post (f_size, f_height, f_open, f_depth, f_level, f_known, f_resultSort, f_resultSize, a_inputSize, a_inputs, a_kind, a_arg, a_row, a_begun, a_levelOf, upd a_head (384 + ln) v, a_data, a_lanes, a_element, a_outside, a_blockKind, a_results) := by
    intro v ev h14
    refine H _ _ ?_ qx_upd1
    rw [qp_gv_f (by omega) h14, ev]
    exact qx_RepN pk_us
  refine pk_eq k 10 (fun h => ?_) (fun n10 => ?_)
  · subst h
    try simp (disch := omega) only [qa_m8, qa_m64, qa_m512, qa_a384, qa_a64, nI_add, nI_1, nI_clamp, vp_in_nI, true_and, forall_eq]
    exact num _ rfl (by omega)
  refine pk_eq k 11 (fun h => ?_) (fun n11 => ?_)
  · subst h
    refine qx_sumOf _ _ (fun i => a.getD i 0) (by omega) m0 s0 ?_
    try simp (disch := omega) only [qa_m8, qa_m64, qa_m512, qa_a384, qa_a64, nI_add, nI_1, nI_clamp, vp_in_nI, true_and, forall_eq]
    exact num _ rfl (by omega)
  refine pk_eq k 12 (fun h => ?_) (fun n12 => ?_)
  · subst h
    refine qx_mostOf _ _ (fun i => a.getD i 0) (by omega) m0 s0 ?_
    try simp (disch := omega) only [qa_m8, qa_m64, qa_m512, qa_a384, qa_a64, nI_add, nI_1, nI_clamp, vp_in_nI, true_and, forall_eq]
    exact num _ rfl (by omega)
  refine pk_eq k 13 (fun h => ?_) (fun n13 => ?_)
  · subst h
    have he' : e + 2 ≤ 6 := he
    try simp (disch := omega) only [qa_m8, qa_m64, qa_m512, qa_a384, qa_a64, nI_add, nI_1, nI_clamp, vp_in_nI, true_and, forall_eq]
    refine qx_number (e + 1) at' ln o1 (by omega) ha (h1 (by decide)) ?_
    rw [h13 rfl]
    have e1 : qp_op 13 a b [] = [if b.getD 0 0 < 0 then 0 else if nI a.length ≤ b.getD 0 0 then 0 else a.getD (b.getD 0 0).toNatClampNeg 0] := rfl
    refine br_c (fun g => ?_) (fun g => ?_)
    · rw [if_pos g] at e1
      exact num _ e1 (by omega)
    · rw [if_neg g] at e1
      refine br_c (fun g2 => ?_) (fun g2 => ?_)
      · rw [if_pos g2] at e1
        exact num _ e1 (by omega)
      · rw [if_neg g2] at e1
        obtain ⟨j, hj, ej⟩ := nI_of g
        rw [ej] at g2 e1
        rw [nI_leI (by omega) hj] at g2
        rw [nI_clamp hj] at e1
        rw [ej]
        try simp (disch := omega) only [qa_m8, qa_m64, qa_m512, qa_a384, qa_a64, nI_add, nI_1, nI_clamp, vp_in_nI, true_and, forall_eq, s0 j (by omega)]
        exact num _ e1 (by omega)
  refine pk_eq k 14 (fun h => absurd h (by omega)) (fun n14 => ?_)
  refine pk_eq k 15 (fun h => ?_) (fun n15 => trivial)
  subst h
  have he' : e + 2 ≤ 6 := he
  obtain ⟨c1, c2, c3⟩ := h15 rfl
  have l1 := h1 (by decide)
  have o1l := l1.1
  try simp (disch := omega) only [qa_m8, qa_m64, qa_m512, qa_a384, qa_a64, nI_add, nI_1, nI_clamp, vp_in_nI, true_and, forall_eq]
  refine qx_number (e + 1) at' ln o1 (by omega) ha l1 ?_
  refine qx_cells (e + 1) at' ln o1 (by omega) ha l1 ?_
  rw [c1]
  refine qx_joinRows (384 + ln) _ _ a.length b.length _ (by omega) (by omega) (by omega) m0 c2 rfl (fun dt g1 g2 => ?_)
  have e1 : qp_op 15 a b [] = qp_ql (if a.length + b.length ≤ 8 then a.length + b.length else 8) (fun i => if i < a.length then a.getD i 0 else b.getD (i - a.length) 0) := rfl
  refine H _ dt ?_ ⟨fun j hj => pk_un hj, g2⟩
  rw [e1]
  refine qx_RepR ?_ ?_
  · rw [qp_ql_len]; exact pk_us
  · intro x hx
    rw [qp_ql_len] at hx
    rw [qp_ql_get hx]
    rw [show 8 * (64 * 6 + ln) = 8 * (384 + ln) from rfl, g1 x hx]
    by_cases z : x < a.length
    · rw [if_pos z, if_pos z]; exact s0 x z
    · rw [if_neg z, if_neg z]
      refine c3 _ ?_
      split at hx <;> omega
end
end
section
/-! X: offsets of lanes, combine, begin, end -/
def qoff (f : Nat → Nat) : Nat → Nat
  | 0 => 0
  | p + 1 => qoff f p + f p
theorem qoff_s (f : Nat → Nat) (p : Nat) : qoff f (p + 1) = qoff f p + f p := rfl
theorem qoff_mono (f : Nat → Nat) {p n : Nat} (h : p ≤ n) : qoff f p ≤ qoff f n := by
  induction n with
  | zero => rw [show p = 0 from by omega]; exact Nat.le_refl _
  | succ n ih =>
    by_cases z : p = n + 1
    · rw [z]; exact Nat.le_refl _
    · have := ih (by omega)
      have := qoff_s f n
      omega
theorem qoff_le {f : Nat → Nat} (n : Nat) (h : ∀ p, p < n → f p ≤ 8) : qoff f n ≤ 8 * n := by
  induction n with
  | zero => exact Nat.le_refl _
  | succ n ih =>
    have := ih (fun p hp => h p (by omega))
    have := h n (by omega)
    have := qoff_s f n
    omega
theorem qoff_find {f : Nat → Nat} {l : Nat} : ∀ n, l < qoff f n → ∃ p k, p < n ∧ k < f p ∧ l = qoff f p + k
  | 0, h => absurd h (Nat.not_lt_zero l)
  | n + 1, h => by
    by_cases z : l < qoff f n
    · obtain ⟨p, k, h1, h2, h3⟩ := qoff_find n z
      exact ⟨p, k, by omega, h2, h3⟩
    · have := qoff_s f n
      exact ⟨n, l - qoff f n, by omega, by omega, by omega⟩
def qx_mx (lv : Nat → Nat) : Nat → Nat
  | 0 => 0
  | n + 1 => if lv n ≤ qx_mx lv n then qx_mx lv n else lv n
theorem qx_mx_ge (lv : Nat → Nat) : ∀ n j, j < n → lv j ≤ qx_mx lv n
  | 0, j, h => absurd h (Nat.not_lt_zero j)
  | n + 1, j, h => by
    have e : qx_mx lv (n + 1) = if lv n ≤ qx_mx lv n then qx_mx lv n else lv n := rfl
    by_cases z : j = n
    · subst z; rw [e]; split <;> omega
    · have := qx_mx_ge lv n j (by omega)
      rw [e]; split <;> omega
theorem qx_mx_le {lv : Nat → Nat} {m : Nat} : ∀ n, (∀ j, j < n → lv j ≤ m) → qx_mx lv n ≤ m
  | 0, _ => Nat.zero_le m
  | n + 1, h => by
    have e : qx_mx lv (n + 1) = if lv n ≤ qx_mx lv n then qx_mx lv n else lv n := rfl
    have := qx_mx_le n (fun j hj => h j (by omega))
    have := h n (by omega)
    rw [e]; split <;> omega
theorem qp_op_c {k : Nat} (h : k ≠ 9) (a b c c' : List Int32) : qp_op k a b c = qp_op k a b c' := by
  unfold qp_op
  rw [if_neg h, if_neg h]
theorem qp_wr0 {k : Nat} (h3 : 3 ≤ k) (h : k < 19) (hk : ¬ ((3 ≤ k ∧ k < 10) ∨ k = 14)) : qp_wr k 0 = true := by
  unfold qp_wr
  by_cases z : k = 13
  · rw [if_pos z]; rfl
  · rw [if_neg z]; exact decide_eq_true (by omega)
theorem qp_wrN {k j : Nat} (hk : (3 ≤ k ∧ k < 10) ∨ k = 14) : qp_wr k j = false := by
  unfold qp_wr
  rw [if_neg (by omega)]; exact decide_eq_false (by omega)
section
variable {f_size f_height f_open f_depth f_level f_known f_resultSort f_resultSize : Int32} {a_inputSize a_inputs a_kind a_arg a_row a_begun a_levelOf a_head a_data a_lanes a_element a_outside a_blockKind a_results : Nat → Int32}
theorem qx_deeper {post : Int32 → Prop} (e lv m : Nat) (he : e < 7) (h1 : a_levelOf e = nI lv) (hl : lv < 3) (hm : m < 3) (H : post (nI (if lv ≤ m then m else lv))) : wpX_deeper post (f_size, f_height, f_open, f_depth, f_level, f_known, f_resultSort, f_resultSize, a_inputSize, a_inputs, a_kind, a_arg, a_row, a_begun, a_levelOf, a_head, a_data, a_lanes, a_element, a_outside, a_blockKind, a_results) (nI e) (nI m) := by
  unfold wpX_deeper
  try simp (disch := omega) only [qa_m8, qa_m64, qa_m512, qa_a384, qa_a64, nI_add, nI_1, nI_clamp, vp_in_nI, true_and, forall_eq, h1]
  refine pk_le lv m (fun z => ?_) (fun z => ?_)
  · rw [if_pos z] at H; exact H
  · rw [if_neg (by omega)] at H; exact H
theorem qx_combine {post : SX → Prop} (k e at' N : Nat) (lv : Nat → Nat) (val : Nat → Nat → List Int32) (hk : 3 ≤ k ∧ k < 19) (hf : e + qp_tk k ≤ 6)
    (hlv : ∀ j, j < qp_tk k → a_levelOf (e + j) = nI (lv j) ∧ lv j < 3) (hat : at' = qx_mx lv (qp_tk k)) (hN : a_lanes at' = nI N) (hN64 : N ≤ 64)
    (hv : ∀ j l, j < qp_tk k → l < N → ∃ own, qx_LA a_levelOf a_outside (e + j) at' l own ∧ qx_Rep a_head a_data (e + j) own (qp_wr k j) (val j l) ∧ (val j l).length ≤ 8)
    (H : ∀ hd dt : Nat → Int32, (∀ l, l < N → qx_Rep hd dt e l (qp_gv k) (qp_op k (val 0 l) (val 1 l) (val 2 l))) → (∀ j, j < 384 → (j < 64 * e ∨ 64 * e + 64 ≤ j) → hd j = a_head j) → (∀ j, j < 3072 → (j < 512 * e ∨ 512 * e + 512 ≤ j) → dt j = a_data j) → post (f_size, f_height, f_open, nI (e + 1), f_level, f_known, f_resultSort, f_resultSize, a_inputSize, a_inputs, a_kind, a_arg, a_row, a_begun, upd a_levelOf e (nI at'), hd, dt, a_lanes, a_element, a_outside, a_blockKind, a_results)) :
    wpX_combine post (f_size, f_height, f_open, nI (e + qp_tk k), f_level, f_known, f_resultSort, f_resultSize, a_inputSize, a_inputs, a_kind, a_arg, a_row, a_begun, a_levelOf, a_head, a_data, a_lanes, a_element, a_outside, a_blockKind, a_results) (nI k) := by
  have ht := qp_tk_0 (k := k) hk.1
  have ht3 := qp_tk_le k
  have hat3 : at' < 3 := by
    have := qx_mx_le (lv := lv) (m := 2) (qp_tk k) (fun j hj => by have := (hlv j hj).2; omega)
    omega
  unfold wpX_combine
  refine qx_taken k (by omega) ?_
  try dsimp only
  rw [pk_sub (by omega), Nat.add_sub_cancel]
  refine nm_e ?_
  refine loop_0 (fun n j (s : Int32) => wX_combine_18 post (nI k) (nI e) f_size f_height f_open (nI (e + qp_tk k)) f_level f_known f_resultSort f_resultSize a_inputSize a_inputs a_kind a_arg a_row a_begun a_levelOf a_head a_data a_lanes a_element a_outside a_blockKind a_results n s (nI (e + j))) (fun j s => s = nI (qx_mx lv j)) (qp_tk k) 0 rfl ?_ ?_
  · intro n s hs
    try dsimp only
    subst hs
    refine br_t (qa_le (Nat.le_refl _)) ?_
    rw [← hat]
    refine qx_takesRow k 0 (by omega) (by omega) ?_
    refine loop_0 (fun n x (s : (Nat → Int32) × (Nat → Int32)) => wX_combine_53 post (nI k) (nI e) (nI at') (qp_b (qp_wr k 0)) n (nI x) f_size f_height f_open (nI (e + qp_tk k)) f_level f_known f_resultSort f_resultSize a_inputSize a_inputs a_kind a_arg a_row a_begun a_levelOf s.1 s.2 a_lanes a_element a_outside a_blockKind a_results)
      (fun x s => (∀ l, l < x → qx_Rep s.1 s.2 6 l (qp_gv k) (qp_op k (val 0 l) (val 1 l) (val 2 l))) ∧ (∀ j, j < 384 → s.1 j = a_head j) ∧ (∀ j, j < 3072 → s.2 j = a_data j)) N (a_head, a_data) ⟨fun l hl => absurd hl (Nat.not_lt_zero l), fun j _ => rfl, fun j _ => rfl⟩ ?_ ?_
    · intro n ⟨hd, dt⟩ ⟨g1, g2, g3⟩
      dsimp only at g1 g2 g3 ⊢
      try simp (disch := omega) only [qa_m8, qa_m64, qa_m512, qa_a384, qa_a64, nI_add, nI_1, nI_clamp, vp_in_nI, true_and, forall_eq, wX_combine_53, hN]
      refine br_t (qa_le (Nat.le_refl _)) ?_
      refine qx_settle e at' N (by omega) hat3 hN hN64 (fun hd' dt' s1 s2 s3 => ?_)
      refine H hd' dt' (fun l hl => ?_) (fun j hj hj2 => ?_) (fun j hj hj2 => ?_)
      · obtain ⟨s1a, s1b⟩ := s1 l hl
        obtain ⟨r1, r2⟩ := g1 l hl
        have hlen : qp_gv k = true → (qp_op k (val 0 l) (val 1 l) (val 2 l)).length ≤ 8 := by
          intro z
          have z14 : 14 ≤ k := of_decide_eq_true z |>.resolve_left (by omega)
          obtain ⟨own, _, _, h8⟩ := hv 0 l (by omega) hl
          exact qp_op_row z14 _ _ _ h8
        refine ⟨fun z => ⟨?_, fun x hx => ?_⟩, fun z => ?_⟩
        · rw [s1a]; exact (r1 z).1
        · have := hlen z
          rw [s1b x (by omega)]; exact (r1 z).2 x hx
        · rw [s1a]; exact r2 z
      · rw [s2 j hj2]; exact g2 j hj
      · rw [s3 j hj2]; exact g3 j hj
    · intro n x ⟨hd, dt⟩ hx ⟨g1, g2, g3⟩ Kc
      dsimp only at g1 g2 g3 ⊢
      obtain ⟨o0, l0, p0, q0⟩ := hv 0 x (by omega) hx
      have o0l := l0.1
      have nxt : ∀ hd' dt' : Nat → Int32, qx_Rep hd' dt' 6 x (qp_gv k) (qp_op k (val 0 x) (val 1 x) (val 2 x)) → qx_Fr hd dt hd' dt' x → wX_combine_53 post (nI k) (nI e) (nI at') (qp_b (qp_wr k 0)) n (nI (x + 1)) f_size f_height f_open (nI (e + qp_tk k)) f_level f_known f_resultSort f_resultSize a_inputSize a_inputs a_kind a_arg a_row a_begun a_levelOf hd' dt' a_lanes a_element a_outside a_blockKind a_results := by
        intro hd' dt' t1 ⟨t2, t3⟩
        refine Kc (hd', dt') ⟨fun l hl => ?_, fun j hj => ?_, fun j hj => ?_⟩
        · by_cases z : l = x
          · rw [z]; exact t1
          · obtain ⟨r1, r2⟩ := g1 l (by omega)
            have z1 : hd' (64 * 6 + l) = hd (64 * 6 + l) := t2 _ (by omega)
            refine ⟨fun w => ⟨?_, fun y hy => ?_⟩, fun w => ?_⟩
            · exact z1.trans (r1 w).1
            · have h8 : y < 8 := by
                have z14 : 14 ≤ k := of_decide_eq_true w |>.resolve_left (by omega)
                obtain ⟨own, _, _, h8⟩ := hv 0 l (by omega) (by omega)
                have := qp_op_row z14 (val 0 l) (val 1 l) (val 2 l) h8
                omega
              dsimp only
              rw [t3 _ (by omega)]; exact (r1 w).2 y hy
            · exact z1.trans (r2 w)
        · dsimp only
          rw [t2 _ (by omega)]; exact g2 j hj
        · dsimp only
          rw [t3 _ (by omega)]; exact g3 j hj
      try simp (disch := omega) only [qa_m8, qa_m64, qa_m512, qa_a384, qa_a64, nI_add, nI_1, nI_clamp, vp_in_nI, true_and, forall_eq, wX_combine_53, hN]
      refine br_f (qa_nle hx) ?_
      by_cases hnum : (3 ≤ k ∧ k < 10) ∨ k = 14
      · rw [qp_wrN hnum] at p0
        refine br_t (by rw [qp_wrN hnum]; rfl) ?_
        have hb : ∃ o1, 2 ≤ qp_tk k → qx_LA a_levelOf a_outside (e + 1) at' x o1 ∧ hd (64 * (e + 1) + o1) = (val 1 x).getD 0 0 := by
          by_cases t2 : 2 ≤ qp_tk k
          · obtain ⟨o1, l1, p1, q1⟩ := hv 1 x (by omega) hx
            rw [qp_wrN hnum] at p1
            have o1l := l1.1
            exact ⟨o1, fun _ => ⟨l1, by rw [g2 _ (by omega)]; exact p1.2 rfl⟩⟩
          · exact ⟨0, fun z => absurd z t2⟩
        have hc : ∃ o2, 3 ≤ qp_tk k → qx_LA a_levelOf a_outside (e + 2) at' x o2 ∧ hd (64 * (e + 2) + o2) = (val 2 x).getD 0 0 := by
          by_cases t2 : 3 ≤ qp_tk k
          · obtain ⟨o2, l2, p2, q2⟩ := hv 2 x (by omega) hx
            rw [qp_wrN hnum] at p2
            have o2l := l2.1
            exact ⟨o2, fun _ => ⟨l2, by rw [g2 _ (by omega)]; exact p2.2 rfl⟩⟩
          · exact ⟨0, fun z => absurd z t2⟩
        obtain ⟨o1, hb⟩ := hb
        obtain ⟨o2, hc⟩ := hc
        refine qx_overNumbers k e at' x o0 o1 o2 (val 0 x) (val 1 x) (val 2 x) hnum hf hat3 (by omega) l0 (by rw [g2 _ (by omega)]; exact p0.2 rfl) hb hc (fun hd' dt' t1 t2 => ?_)
        exact nxt hd' dt' t1 t2
      · rw [qp_wr0 hk.1 hk.2 hnum] at p0
        refine br_f (by rw [qp_wr0 hk.1 hk.2 hnum]; decide) ?_
        obtain ⟨p0a, p0b⟩ := p0.1 rfl
        have hb : ∃ o1, (2 ≤ qp_tk k → qx_LA a_levelOf a_outside (e + 1) at' x o1) ∧ (k = 13 → hd (64 * (e + 1) + o1) = (val 1 x).getD 0 0) ∧ (k = 15 → hd (64 * (e + 1) + o1) = nI (val 1 x).length ∧ (val 1 x).length ≤ 8 ∧ ∀ y, y < (val 1 x).length → dt (8 * (64 * (e + 1) + o1) + y) = (val 1 x).getD y 0) := by
          by_cases t2 : 2 ≤ qp_tk k
          · obtain ⟨o1, l1, p1, q1⟩ := hv 1 x (by omega) hx
            have o1l := l1.1
            refine ⟨o1, fun _ => l1, fun z => ?_, fun z => ?_⟩
            · rw [g2 _ (by omega)]; exact p1.2 (by rw [z]; rfl)
            · obtain ⟨c1, c2⟩ := p1.1 (by rw [z]; rfl)
              refine ⟨by rw [g2 _ (by omega)]; exact c1, q1, fun y hy => ?_⟩
              rw [g3 _ (by omega)]; exact c2 y hy
          · refine ⟨0, fun z => absurd z t2, fun z => ?_, fun z => ?_⟩
            · rw [z] at t2; exact absurd (by decide) t2
            · rw [z] at t2; exact absurd (by decide) t2
        obtain ⟨o1, hb1, hb2, hb3⟩ := hb
        refine qx_overRow k e at' x o0 o1 (val 0 x) (val 1 x) (by omega) hf hat3 (by omega) l0 (by rw [g2 _ (by omega)]; exact p0a) (fun y hy => by rw [g3 _ (by omega)]; exact p0b y hy) q0 hb1 hb2 hb3 (fun hd' dt' t1 t2 => ?_)
        rw [qp_op_c (by omega) _ _ [] (val 2 x)] at t1
        exact nxt hd' dt' t1 t2
  · intro n j s hj hs Kc
    try dsimp only
    subst hs
    refine br_f (qa_nle (by omega)) ?_
    obtain ⟨e1, e2⟩ := hlv j hj
    have h2 := qx_mx_le (lv := lv) (m := 2) j (fun j' hj' => by have := (hlv j' (by omega)).2; omega)
    refine qx_deeper (e + j) (lv j) (qx_mx lv j) (by omega) e1 e2 (by omega) ?_
    try simp (disch := omega) only [qa_m8, qa_m64, qa_m512, qa_a384, qa_a64, nI_add, nI_1, nI_clamp, vp_in_nI, true_and, forall_eq]
    exact Kc _ rfl
end
end
section
/-! X: begin and end of a block -/
section
variable {f_size f_height f_open f_depth f_level f_known f_resultSort f_resultSize : Int32} {a_inputSize a_inputs a_kind a_arg a_row a_begun a_levelOf a_head a_data a_lanes a_element a_outside a_blockKind a_results : Nat → Int32}
theorem qx_begin76 {post : SX → Prop} {J : Int32 → Int32 → (Nat → Int32) → (Nat → Int32) → (Nat → Int32) → (Nat → Int32) → (Nat → Int32) → (Nat → Int32) → (Nat → Int32) → (Nat → Int32) → (Nat → Int32) → (Nat → Int32) → (Nat → Int32) → (Nat → Int32) → (Nat → Int32) → (Nat → Int32) → Prop} (o p n0 fr m : Nat) (rd : List Int32) (ho : o < 2) (hn : n0 + m ≤ 64) (hp : p < 64) (hf : fr + 8 ≤ 3584) (hm : m ≤ 8) (hr : rd.length = m) (hd : ∀ k, k < m → a_data (fr + k) = rd.getD k 0)
    (H : ∀ el ou : Nat → Int32, (∀ k, k < m → ou (64 * o + (n0 + k)) = nI p ∧ el (64 * o + (n0 + k)) = rd.getD k 0) → (∀ j, (j < 64 * o + n0 ∨ 64 * o + n0 + m ≤ j) → el j = a_element j ∧ ou j = a_outside j) → J (nI (n0 + m)) (nI (p + 1)) a_inputSize a_inputs a_kind a_arg a_row a_begun a_levelOf a_head a_data a_lanes el ou a_blockKind a_results) :
    ∃ n, wX_begin_76 post J (nI o) (nI p) (nI m) (nI fr) f_size f_height f_open f_depth f_level f_known f_resultSort f_resultSize n (nI n0) 0 a_inputSize a_inputs a_kind a_arg a_row a_begun a_levelOf a_head a_data a_lanes a_element a_outside a_blockKind a_results := by
  refine loop_0 (fun n x (s : (Nat → Int32) × (Nat → Int32)) => wX_begin_76 post J (nI o) (nI p) (nI m) (nI fr) f_size f_height f_open f_depth f_level f_known f_resultSort f_resultSize n (nI (n0 + x)) (nI x) a_inputSize a_inputs a_kind a_arg a_row a_begun a_levelOf a_head a_data a_lanes s.1 s.2 a_blockKind a_results)
    (fun x s => (∀ k, k < x → s.2 (64 * o + (n0 + k)) = nI p ∧ s.1 (64 * o + (n0 + k)) = rd.getD k 0) ∧ (∀ j, (j < 64 * o + n0 ∨ 64 * o + n0 + x ≤ j) → s.1 j = a_element j ∧ s.2 j = a_outside j)) m (a_element, a_outside) ⟨fun k h => absurd h (Nat.not_lt_zero k), fun j _ => ⟨rfl, rfl⟩⟩ ?_ ?_
  · intro n ⟨el, ou⟩ ⟨h1, h2⟩
    dsimp only at h1 h2 ⊢
    exact br_t (qa_le (Nat.le_refl m)) (nm_r (nI_1 p) (H el ou h1 h2))
  · intro n x ⟨el, ou⟩ hx ⟨h1, h2⟩ Kc
    dsimp only at h1 h2 ⊢
    refine br_f (qa_nle hx) ?_
    try simp (disch := omega) only [qa_m8, qa_m64, qa_m512, qa_a384, qa_a64, nI_add, nI_1, nI_clamp, vp_in_nI, true_and, forall_eq, hd x hx]
    refine Kc (upd el (64 * o + (n0 + x)) (rd.getD x 0), upd ou (64 * o + (n0 + x)) (nI p)) ⟨fun k hk => ?_, fun j hj => ?_⟩
    · dsimp only
      by_cases z : k = x
      · rw [z, pk_us, pk_us]; exact ⟨rfl, rfl⟩
      · rw [pk_un (by omega), pk_un (by omega)]; exact h1 k (by omega)
    · dsimp only
      rw [pk_un (by omega), pk_un (by omega)]; exact h2 j (by omega)
theorem qx_begin {post : SX → Prop} (d o N kk : Nat) (rd : Nat → List Int32) (hd6 : d < 6) (ho : o < 2) (hN : a_lanes o = nI N) (hN8 : N ≤ 8)
    (hv : ∀ p, p < N → ∃ own, (∀ ou : Nat → Int32, qx_LA a_levelOf ou d o p own) ∧ a_head (64 * d + own) = nI (rd p).length ∧ (rd p).length ≤ 8 ∧ ∀ k, k < (rd p).length → a_data (8 * (64 * d + own) + k) = (rd p).getD k 0)
    (H : ∀ el ou : Nat → Int32, (∀ p k, p < N → k < (rd p).length → ou (64 * o + (qoff (fun p => (rd p).length) p + k)) = nI p ∧ el (64 * o + (qoff (fun p => (rd p).length) p + k)) = (rd p).getD k 0) → (∀ j, (j < 64 * o ∨ 64 * o + 64 ≤ j) → el j = a_element j ∧ ou j = a_outside j) → post (f_size, f_height, f_open, nI d, nI (o + 1), f_known, f_resultSort, f_resultSize, a_inputSize, a_inputs, a_kind, a_arg, a_row, a_begun, a_levelOf, a_head, a_data, upd a_lanes (o + 1) (nI (qoff (fun p => (rd p).length) N)), el, ou, upd a_blockKind o (nI kk), a_results)) :
    wpX_begin post (f_size, f_height, f_open, nI (d + 1), nI o, f_known, f_resultSort, f_resultSize, a_inputSize, a_inputs, a_kind, a_arg, a_row, a_begun, a_levelOf, a_head, a_data, a_lanes, a_element, a_outside, a_blockKind, a_results) (nI kk) := by
  have hoff : ∀ p, p ≤ N → qoff (fun p => (rd p).length) p ≤ 8 * p := fun p hp => qoff_le p (fun q hq => by obtain ⟨own, _, _, h8, _⟩ := hv q (by omega); exact h8)
  unfold wpX_begin
  try simp (disch := omega) only [qa_m8, qa_m64, qa_m512, qa_a384, qa_a64, nI_add, nI_1, nI_clamp, vp_in_nI, true_and, forall_eq, qa_s1, Nat.add_sub_cancel]
  refine loop_0 (fun n p (s : (Nat → Int32) × (Nat → Int32)) => wX_begin_27 post (nI o) f_size f_height f_open (nI d) (nI o) f_known f_resultSort f_resultSize n (nI (qoff (fun p => (rd p).length) p)) (nI p) a_inputSize a_inputs a_kind a_arg a_row a_begun a_levelOf a_head a_data a_lanes s.1 s.2 (upd a_blockKind o (nI kk)) a_results)
    (fun p s => (∀ q k, q < p → k < (rd q).length → s.2 (64 * o + (qoff (fun p => (rd p).length) q + k)) = nI q ∧ s.1 (64 * o + (qoff (fun p => (rd p).length) q + k)) = (rd q).getD k 0) ∧ (∀ j, (j < 64 * o ∨ 64 * o + qoff (fun p => (rd p).length) p ≤ j) → s.1 j = a_element j ∧ s.2 j = a_outside j)) N (a_element, a_outside) ⟨fun q k h => absurd h (Nat.not_lt_zero q), fun j _ => ⟨rfl, rfl⟩⟩ ?_ ?_
  · intro n ⟨el, ou⟩ ⟨h1, h2⟩
    dsimp only at h1 h2 ⊢
    have := hoff N (Nat.le_refl N)
    try simp (disch := omega) only [qa_m8, qa_m64, qa_m512, qa_a384, qa_a64, nI_add, nI_1, nI_clamp, vp_in_nI, true_and, forall_eq, wX_begin_27, hN]
    exact br_t (qa_le (Nat.le_refl N)) (H el ou h1 (fun j hj => h2 j (by omega)))
  · intro n p ⟨el, ou⟩ hp ⟨h1, h2⟩ Kc
    dsimp only at h1 h2 ⊢
    obtain ⟨own, g1, g2, g3, g4⟩ := hv p hp
    have own64 := (g1 ou).1
    have off1 := hoff p (by omega)
    try simp (disch := omega) only [qa_m8, qa_m64, qa_m512, qa_a384, qa_a64, nI_add, nI_1, nI_clamp, vp_in_nI, true_and, forall_eq, wX_begin_27, hN]
    refine br_f (qa_nle hp) ?_
    refine qx_number d o p own (by omega) (by omega) (g1 ou) ?_
    refine qx_cells d o p own (by omega) (by omega) (g1 ou) ?_
    rw [g2]
    refine qx_begin76 o p (qoff (fun p => (rd p).length) p) _ _ (rd p) ho (by omega) (by omega) (by omega) g3 rfl g4 (fun el' ou' e1 e2 => ?_)
    refine Kc (el', ou') ⟨fun q k hq hk => ?_, fun j hj => ?_⟩
    · dsimp only
      by_cases z : q = p
      · subst z
        exact e1 k hk
      · have m1 := qoff_mono (fun p => (rd p).length) (p := q + 1) (n := p) (by omega)
        have m2 := qoff_s (fun p => (rd p).length) q
        try dsimp only at m2
        obtain ⟨a1, a2⟩ := e2 (64 * o + (qoff (fun p => (rd p).length) q + k)) (by omega)
        rw [a1, a2]
        exact h1 q k (by omega) hk
    · dsimp only
      have m2 := qoff_s (fun p => (rd p).length) p
      try dsimp only at m2
      obtain ⟨a1, a2⟩ := e2 j (by omega)
      rw [a1, a2]
      exact h2 j (by omega)
theorem qx_end99 {post : SX → Prop} {J : Int32 → (Nat → Int32) → (Nat → Int32) → (Nat → Int32) → (Nat → Int32) → (Nat → Int32) → (Nat → Int32) → (Nat → Int32) → (Nat → Int32) → (Nat → Int32) → (Nat → Int32) → (Nat → Int32) → (Nat → Int32) → (Nat → Int32) → (Nat → Int32) → Prop} (o d l p kk : Nat) (v z0 : Int32) (g : List Int32) (ho : o < 2) (hl : l < 64) (hp : p < 64) (hkk : qp_blk kk) (hz : z0 = if kk = 19 then 1 else 0) (hg : g.length < 8) (r1 : a_head (384 + p) = nI g.length) (r2 : ∀ x, x < g.length → a_data (8 * (384 + p) + x) = g.getD x 0)
    (H : ∀ hd dt : Nat → Int32, qx_Rep hd dt 6 p true (g ++ qp_g1 kk (a_element (64 * o + l)) v) → qx_Fr a_head a_data hd dt p → J (nI (l + 1)) a_inputSize a_inputs a_kind a_arg a_row a_begun a_levelOf hd dt a_lanes a_element a_outside a_blockKind a_results) :
    wX_end_99 post J (nI o) (nI d) (nI l) v (nI p) z0 f_size f_height f_open f_depth f_level f_known f_resultSort f_resultSize a_inputSize a_inputs a_kind a_arg a_row a_begun a_levelOf a_head a_data a_lanes a_element a_outside a_blockKind a_results := by
  have put : ∀ w : Int32, qp_g1 kk (a_element (64 * o + l)) v = [w] → wX_end_157 post J (nI o) (nI d) (nI l) (nI (384 + p)) w (nI (8 * (384 + p) + g.length)) f_size f_height f_open f_depth f_level f_known f_resultSort f_resultSize a_inputSize a_inputs a_kind a_arg a_row a_begun a_levelOf a_head a_data a_lanes a_element a_outside a_blockKind a_results := by
    intro w hw
    rw [hw] at H
    unfold wX_end_157
    try simp (disch := omega) only [qa_m8, qa_m64, qa_m512, qa_a384, qa_a64, nI_add, nI_1, nI_clamp, vp_in_nI, true_and, forall_eq, r1]
    refine H _ _ (qx_RepR ?_ (fun k hk => ?_)) ⟨fun j hj => pk_un hj, fun j hj => pk_un (by omega)⟩
    · rw [List.length_append]; exact pk_us
    · rw [List.length_append] at hk
      have hk' : k < g.length + 1 := hk
      show upd a_data (8 * (384 + p) + g.length) w (8 * (384 + p) + k) = _
      by_cases z : k = g.length
      · rw [z, pk_us, qp_app_hi]
      · rw [pk_un (by omega), qp_app_lo (by omega)]; exact r2 k (by omega)
  unfold wX_end_99
  by_cases k19 : kk = 19
  · rw [if_pos k19] at hz
    subst hz
    refine br_f (by decide) ?_
    unfold wX_end_111
    try simp (disch := omega) only [qa_m8, qa_m64, qa_m512, qa_a384, qa_a64, nI_add, nI_1, nI_clamp, vp_in_nI, true_and, forall_eq, r1]
    refine br_f (by decide) (put v ?_)
    unfold qp_g1
    rw [if_pos k19]
  · rw [if_neg k19] at hz
    subst hz
    refine br_t rfl (br_c (fun hv => ?_) (fun hv => ?_))
    · try simp (disch := omega) only [qa_m8, qa_m64, qa_m512, qa_a384, qa_a64, nI_add, nI_1, nI_clamp, vp_in_nI, true_and, forall_eq]
      refine H a_head a_data ?_ ⟨fun j _ => rfl, fun j _ => rfl⟩
      have e : qp_g1 kk (a_element (64 * o + l)) v = [] := by unfold qp_g1; rw [if_neg k19, if_pos hv]
      rw [e, List.append_nil]
      exact qx_RepR r1 r2
    · unfold wX_end_111
      try simp (disch := omega) only [qa_m8, qa_m64, qa_m512, qa_a384, qa_a64, nI_add, nI_1, nI_clamp, vp_in_nI, true_and, forall_eq, r1]
      refine br_t (by trivial) (put _ ?_)
      unfold qp_g1
      rw [if_neg k19, if_neg hv]
theorem qx_end {post : SX → Prop} (d o N kk : Nat) (rd : Nat → List Int32) (fv : Nat → Int32 → Int32) (hd6 : d < 6) (ho : o < 2) (hN : a_lanes o = nI N) (hN8 : N ≤ 8) (hM : a_lanes (o + 1) = nI (qoff (fun p => (rd p).length) N)) (hkk : qp_blk kk) (hbk : a_blockKind o = nI kk)
    (hr8 : ∀ p, p < N → (rd p).length ≤ 8)
    (he : ∀ p k, p < N → k < (rd p).length → a_outside (64 * o + (qoff (fun p => (rd p).length) p + k)) = nI p ∧ a_element (64 * o + (qoff (fun p => (rd p).length) p + k)) = (rd p).getD k 0)
    (hv : ∀ p k, p < N → k < (rd p).length → ∃ own, qx_LA a_levelOf a_outside d (o + 1) (qoff (fun p => (rd p).length) p + k) own ∧ a_head (64 * d + own) = fv p ((rd p).getD k 0))
    (H : ∀ hd dt : Nat → Int32, (∀ p, p < N → qx_Rep hd dt d p true (qp_gather kk (fv p) (rd p))) → (∀ j, j < 384 → (j < 64 * d ∨ 64 * d + 64 ≤ j) → hd j = a_head j) → (∀ j, j < 3072 → (j < 512 * d ∨ 512 * d + 512 ≤ j) → dt j = a_data j) → post (f_size, f_height, f_open, nI (d + 1), nI o, f_known, f_resultSort, f_resultSize, a_inputSize, a_inputs, a_kind, a_arg, a_row, a_begun, upd a_levelOf d (nI o), hd, dt, a_lanes, a_element, a_outside, a_blockKind, a_results)) :
    wpX_end post (f_size, f_height, f_open, nI (d + 1), nI (o + 1), f_known, f_resultSort, f_resultSize, a_inputSize, a_inputs, a_kind, a_arg, a_row, a_begun, a_levelOf, a_head, a_data, a_lanes, a_element, a_outside, a_blockKind, a_results) := by
  have hM64 : qoff (fun p => (rd p).length) N ≤ 64 := by
    have := qoff_le (f := fun p => (rd p).length) N hr8
    omega
  unfold wpX_end
  try simp (disch := omega) only [qa_m8, qa_m64, qa_m512, qa_a384, qa_a64, nI_add, nI_1, nI_clamp, vp_in_nI, true_and, forall_eq, qa_s1, Nat.add_sub_cancel]
  refine loop_0 (fun n x (hd : Nat → Int32) => wX_end_16 post (nI o) (nI d) f_size f_height f_open (nI (d + 1)) (nI (o + 1)) f_known f_resultSort f_resultSize n (nI x) a_inputSize a_inputs a_kind a_arg a_row a_begun a_levelOf hd a_data a_lanes a_element a_outside a_blockKind a_results)
    (fun x hd => (∀ l, l < x → hd (384 + l) = 0) ∧ (∀ j, j < 384 → hd j = a_head j)) N a_head ⟨fun l h => absurd h (Nat.not_lt_zero l), fun j _ => rfl⟩ ?_ ?_
  · intro n hd0 ⟨z1, z2⟩
    try dsimp only
    try simp (disch := omega) only [qa_m8, qa_m64, qa_m512, qa_a384, qa_a64, nI_add, nI_1, nI_clamp, vp_in_nI, true_and, forall_eq, wX_end_16, hN]
    refine br_t (qa_le (Nat.le_refl N)) ?_
    refine loop_0 (fun n x (s : (Nat → Int32) × (Nat → Int32)) => wX_end_45 post (nI o) (nI d) f_size f_height f_open (nI (d + 1)) (nI (o + 1)) f_known f_resultSort f_resultSize n (nI x) a_inputSize a_inputs a_kind a_arg a_row a_begun a_levelOf s.1 s.2 a_lanes a_element a_outside a_blockKind a_results)
      (fun x s => (∀ q, q < N → qx_Rep s.1 s.2 6 q true (qp_gather kk (fv q) ((rd q).take (x - qoff (fun p => (rd p).length) q)))) ∧ (∀ j, j < 384 → s.1 j = a_head j) ∧ (∀ j, j < 3072 → s.2 j = a_data j)) (qoff (fun p => (rd p).length) N) (hd0, a_data) ⟨fun q hq => ?_, z2, fun j _ => rfl⟩ ?_ ?_
    · rw [Nat.zero_sub, List.take_zero, qp_gather_nil]
      exact qx_RepR (z1 q hq) (fun k hk => absurd hk (Nat.not_lt_zero k))
    · intro n ⟨hd, dt⟩ ⟨g1, g2, g3⟩
      dsimp only at g1 g2 g3 ⊢
      try simp (disch := omega) only [qa_m8, qa_m64, qa_m512, qa_a384, qa_a64, nI_add, nI_1, nI_clamp, vp_in_nI, true_and, forall_eq, wX_end_45, hM, qa_s1, Nat.add_sub_cancel]
      refine br_t (qa_le (Nat.le_refl _)) ?_
      refine qx_settle d o N hd6 (by omega) hN (by omega) (fun hd' dt' s1 s2 s3 => ?_)
      refine H hd' dt' (fun p hp => ?_) (fun j hj hj2 => ?_) (fun j hj hj2 => ?_)
      · have m1 := qoff_mono (fun p => (rd p).length) (p := p + 1) (n := N) (by omega)
        have m2 := qoff_s (fun p => (rd p).length) p
        try dsimp only at m2
        have r := g1 p hp
        rw [List.take_of_length_le (by omega)] at r
        obtain ⟨r1, r2⟩ := r.1 rfl
        obtain ⟨t1, t2⟩ := s1 p hp
        refine qx_RepR (t1.trans r1) (fun k hk => ?_)
        have := qp_gather_len kk (fv p) (rd p)
        have := hr8 p hp
        rw [t2 k (by omega)]
        exact r2 k hk
      · rw [s2 j hj2]; exact g2 j hj
      · rw [s3 j hj2]; exact g3 j hj
    · intro n x ⟨hd, dt⟩ hx ⟨g1, g2, g3⟩ Kc
      dsimp only at g1 g2 g3 ⊢
      obtain ⟨p, k, hp, hk, ex⟩ := qoff_find N hx
      try dsimp only at hk
      obtain ⟨own, l1, l2⟩ := hv p k hp hk
      obtain ⟨e1, e2⟩ := he p k hp hk
      rw [← ex] at l1 e1 e2
      have own64 := l1.1
      have hr := hr8 p hp
      try simp (disch := omega) only [qa_m8, qa_m64, qa_m512, qa_a384, qa_a64, nI_add, nI_1, nI_clamp, vp_in_nI, true_and, forall_eq, wX_end_45, hM]
      refine br_f (qa_nle hx) ?_
      refine qx_number d (o + 1) x own (by omega) (by omega) l1 ?_
      rw [g2 _ (by omega), l2]
      try simp (disch := omega) only [qa_m8, qa_m64, qa_m512, qa_a384, qa_a64, nI_add, nI_1, nI_clamp, vp_in_nI, true_and, forall_eq, e1, hbk]
      have nxt : ∀ z0 : Int32, z0 = (if kk = 19 then 1 else 0) → wX_end_99 post (wX_end_45 post (nI o) (nI d) f_size f_height f_open (nI (d + 1)) (nI (o + 1)) f_known f_resultSort f_resultSize n) (nI o) (nI d) (nI x) (fv p ((rd p).getD k 0)) (nI p) z0 f_size f_height f_open (nI (d + 1)) (nI (o + 1)) f_known f_resultSort f_resultSize a_inputSize a_inputs a_kind a_arg a_row a_begun a_levelOf hd dt a_lanes a_element a_outside a_blockKind a_results := by
        intro z0 hz
        have r := g1 p hp
        rw [show x - qoff (fun p => (rd p).length) p = k from by omega] at r
        have gl := qp_gather_len kk (fv p) ((rd p).take k)
        rw [List.length_take] at gl
        obtain ⟨r1, r2⟩ := r.1 rfl
        refine qx_end99 o d x p kk _ z0 (qp_gather kk (fv p) ((rd p).take k)) ho (by omega) (by omega) hkk hz (by omega) r1 r2 (fun hd' dt' t1 t2 => ?_)
        rw [e2, ← qp_gather_take hk] at t1
        obtain ⟨f1, f2⟩ := t2
        refine Kc (hd', dt') ⟨fun q hq => ?_, fun j hj => ?_, fun j hj => ?_⟩
        · dsimp only
          by_cases z : q = p
          · subst z
            rw [show x + 1 - qoff (fun p => (rd p).length) q = k + 1 from by omega]
            exact t1
          · have same : (rd q).take (x + 1 - qoff (fun p => (rd p).length) q) = (rd q).take (x - qoff (fun p => (rd p).length) q) := by
              by_cases zq : q < p
              · have m1 := qoff_mono (fun p => (rd p).length) (p := q + 1) (n := p) (by omega)
                have m2 := qoff_s (fun p => (rd p).length) q
                try dsimp only at m2
                rw [List.take_of_length_le (by omega), List.take_of_length_le (by omega)]
              · have m1 := qoff_mono (fun p => (rd p).length) (p := p + 1) (n := q) (by omega)
                have m2 := qoff_s (fun p => (rd p).length) p
                try dsimp only at m2
                rw [show x + 1 - qoff (fun p => (rd p).length) q = 0 from by omega, show x - qoff (fun p => (rd p).length) q = 0 from by omega]
            rw [same]
            obtain ⟨u1, u2⟩ := (g1 q hq).1 rfl
            refine qx_RepR ((f1 _ (by omega)).trans u1) (fun y hy => ?_)
            have gl2 := qp_gather_len kk (fv q) ((rd q).take (x - qoff (fun p => (rd p).length) q))
            rw [List.length_take] at gl2
            have := hr8 q hq
            rw [f2 _ (by omega)]
            exact u2 y hy
        · dsimp only
          rw [f1 _ (by omega)]; exact g2 j hj
        · dsimp only
          rw [f2 _ (by omega)]; exact g3 j hj
      refine br_c (fun z => nxt 1 ?_) (fun z => nxt 0 ?_)
      · have z' : kk = 19 := (nI_eq (b := 19) (by omega) (by omega)).mp z
        rw [if_pos z']
      · have z' : kk ≠ 19 := fun w => z (by rw [w]; rfl)
        rw [if_neg z']
  · intro n x hd hx ⟨z1, z2⟩ Kc
    try dsimp only
    try simp (disch := omega) only [qa_m8, qa_m64, qa_m512, qa_a384, qa_a64, nI_add, nI_1, nI_clamp, vp_in_nI, true_and, forall_eq, wX_end_16, hN]
    refine br_f (qa_nle hx) ?_
    refine Kc _ ⟨fun l hl => ?_, fun j hj => ?_⟩
    · by_cases z : l = x
      · rw [z, pk_us]
      · rw [pk_un (by omega)]; exact z1 l (by omega)
    · rw [pk_un (by omega)]; exact z2 j hj
end
end
section
/-! X: the state of the lanes against the denotations; a token carried out -/
def qx_Enum (b : Nat) (N : Nat → Nat) (E : Nat → Nat → qE) (el ou : Nat → Int32) (rd : qD) : Prop :=
  N (b + 1) = qoff (fun p => (rd (E b p)).length) (N b) ∧ ∀ p k, p < N b → k < (rd (E b p)).length →
    ou (64 * b + (qoff (fun p => (rd (E b p)).length) p + k)) = nI p ∧ el (64 * b + (qoff (fun p => (rd (E b p)).length) p + k)) = (rd (E b p)).getD k 0
    ∧ E (b + 1) (qoff (fun p => (rd (E b p)).length) p + k) = upd (E b p) b ((rd (E b p)).getD k 0)
def qx_Ent (N : Nat → Nat) (E : Nat → Nat → qE) (lo hd dt : Nat → Int32) (o : Nat) (fl : Nat → Nat) (e : Nat) (w : Bool) (d : qD) : Prop :=
  ∃ lv, lo e = nI lv ∧ lv ≤ o ∧ (∀ b, b < o → e < fl b → lv ≤ b) ∧ q_dep lv d ∧ ∀ l, l < N lv → qx_Rep hd dt e l w (d (E lv l))
def qx_R (K : Nat → Nat) (A : Nat → Int32) (inp : Nat → List Int32) (i : Nat) (N : Nat → Nat) (E : Nat → Nat → qE) (lo hd dt la el ou bk : Nat → Int32) : Prop :=
  N 0 = 1 ∧ (∀ m, m ≤ qo K i → la m = nI (N m) ∧ N m ≤ 8 ^ m) ∧ (∀ b, b < qo K i → bk b = nI (K (qb K i b)) ∧ qx_Enum b N E el ou (qr K A inp i b))
  ∧ (∀ e, e < qh K i → qx_Ent N E lo hd dt (qo K i) (qf K i) e (qw K i e) (qn K A inp i e))
theorem q_pow {m n : Nat} (hm : m ≤ 2) (h : n ≤ 8 ^ m) : n ≤ 64 :=
  Nat.le_trans h (Nat.le_trans (Nat.pow_le_pow_right (by decide) hm) (by decide))
theorem q_pow1 {m n : Nat} (hm : m ≤ 1) (h : n ≤ 8 ^ m) : n ≤ 8 :=
  Nat.le_trans h (Nat.le_trans (Nat.pow_le_pow_right (by decide) hm) (by decide))
theorem qx_lane {N : Nat → Nat} {E : Nat → Nat → qE} {lo el ou : Nat → Int32} (rdf : Nat → qD) (o at' e lv l : Nat) (hen : ∀ b, b < o → qx_Enum b N E el ou (rdf b)) (h0 : N 0 = 1) (h64 : ∀ m, m ≤ o → N m ≤ 64) (ho : o ≤ 2)
    (hlv : lo e = nI lv) (h1 : lv ≤ at') (h2 : at' ≤ o) (hl : l < N at') : ∃ own, own < N lv ∧ qx_LA lo ou e at' l own ∧ ∀ c, c < lv → E lv own c = E at' l c := by
  have hl64 := h64 at' h2
  by_cases z : lv = at'
  · subst z
    exact ⟨l, hl, ⟨by omega, by omega, lv, by omega, hlv, Or.inl ⟨rfl, rfl⟩⟩, fun c _ => rfl⟩
  · by_cases z0 : lv = 0
    · subst z0
      exact ⟨0, by omega, ⟨by omega, by omega, 0, by omega, hlv, Or.inr (Or.inl ⟨z, rfl, rfl⟩)⟩, fun c hc => absurd hc (Nat.not_lt_zero c)⟩
    · have e1 : lv = 1 := by omega
      have e2 : at' = 2 := by omega
      subst e1 e2
      obtain ⟨n1, n2⟩ := hen 1 (by omega)
      have hl' : l < qoff (fun p => (rdf 1 (E 1 p)).length) (N 1) := by rw [← n1]; exact hl
      obtain ⟨p, k, hp, hk, ex⟩ := qoff_find _ hl'
      obtain ⟨c1, c2, c3⟩ := n2 p k hp hk
      rw [← ex] at c1 c3
      have hp64 := h64 1 (by omega)
      refine ⟨p, hp, ⟨by omega, by omega, 1, by omega, hlv, Or.inr (Or.inr ⟨z, z0, c1⟩)⟩, fun c hc => ?_⟩
      rw [c3, pk_un (by omega)]
section
variable {K : Nat → Nat} {A : Nat → Int32} {inp : Nat → List Int32} {i : Nat} {N : Nat → Nat} {E : Nat → Nat → qE}
theorem qx_push {lo hd dt la el ou bk lo' hd' dt' : Nat → Int32} (V : ∀ j, j ≤ i → qv K A j) (hb : ¬ qp_blk (K i)) (h21 : K i ≠ 21) (R : qx_R K A inp i N E lo hd dt la el ou bk) (f lv : Nat) (hf : f = qh K i - qp_tk (K i)) (hlv : lv ≤ qo K i)
    (h1 : lo' f = nI lv) (h2 : ∀ e, e < f → lo' e = lo e) (h3 : ∀ j, j < 64 * f → hd' j = hd j) (h4 : ∀ j, j < 512 * f → dt' j = dt j)
    (hd1 : q_dep lv (qval (K i) (A i) inp (qn K A inp i) f)) (hr : ∀ l, l < N lv → qx_Rep hd' dt' f l (qp_gv (K i)) (qval (K i) (A i) inp (qn K A inp i) f (E lv l)))
    (h8 : ∀ e env, e < qh K i → (qn K A inp i e env).length ≤ 8) : qx_R K A inp (i + 1) N E lo' hd' dt' la el ou bk := by
  obtain ⟨r0, r1, r2, r3⟩ := R
  have I1 := q_i1 (K := K) (A := A) i (fun j hj => V j (by omega))
  have hB := fun b => q_base (b := b) I1
  have v5 := ((V i (Nat.le_refl i)).2.2.2.2.1 h21).1
  unfold qx_R
  rw [qo_s hb h21, qb_n hb, qr_n hb, qh_s hb h21, qf_n hb, qw_s hb h21, qn_s hb h21]
  refine ⟨r0, r1, r2, fun e he => ?_⟩
  try dsimp only
  rw [← hf]
  by_cases z : e = f
  · rw [if_pos z, if_pos z]
    subst z
    exact ⟨lv, h1, hlv, fun b hb1 hb2 => by have := hB b hb1; omega, hd1, hr⟩
  · rw [if_neg z, if_neg z]
    have hef : e < f := by omega
    obtain ⟨lv', a1, a2, a3, a4, a5⟩ := r3 e (by omega)
    refine ⟨lv', by rw [h2 e hef]; exact a1, a2, a3, a4, fun l hl => ?_⟩
    have hl64 := q_pow (Nat.le_trans a2 I1.2.1) (r1 lv' a2).2
    obtain ⟨b1, b2⟩ := a5 l hl
    refine ⟨fun w => ⟨?_, fun k hk => ?_⟩, fun w => ?_⟩
    · rw [h3 _ (by omega)]; exact (b1 w).1
    · have := h8 e (E lv' l) (by omega)
      rw [h4 _ (by omega)]; exact (b1 w).2 k hk
    · rw [h3 _ (by omega)]; exact b2 w
end
section
variable {f_size f_height f_open f_depth f_level f_known f_resultSort f_resultSize : Int32} {a_inputSize a_inputs a_kind a_arg a_row a_begun a_levelOf a_head a_data a_lanes a_element a_outside a_blockKind a_results : Nat → Int32}
variable {K : Nat → Nat} {A : Nat → Int32} {inp : Nat → List Int32} {i : Nat} {N : Nat → Nat} {E : Nat → Nat → qE}
/-- the inputs as an object keeps them -/
def qx_Inp (inp : Nat → List Int32) (sz ip : Nat → Int32) : Prop := ∀ b, b < 3 → (inp b).length ≤ 8 ∧ sz b = nI (inp b).length ∧ ∀ k, k < (inp b).length → ip (8 * b + k) = (inp b).getD k 0
def qx_Next (post : SX → Prop) (K : Nat → Nat) (A : Nat → Int32) (inp : Nat → List Int32) (i : Nat) (f_size f_height f_open f_known f_resultSort f_resultSize : Int32) (a_inputSize a_inputs a_kind a_arg a_row a_begun a_results : Nat → Int32) : Prop :=
  ∀ (N' : Nat → Nat) (E' : Nat → Nat → qE) (lo hd dt la el ou bk : Nat → Int32), qx_R K A inp (i + 1) N' E' lo hd dt la el ou bk → post (f_size, f_height, f_open, nI (qh K (i + 1)), nI (qo K (i + 1)), f_known, f_resultSort, f_resultSize, a_inputSize, a_inputs, a_kind, a_arg, a_row, a_begun, lo, hd, dt, la, el, ou, bk, a_results)
theorem qx_tok0 {post : SX → Prop} (V : ∀ j, j ≤ i → qv K A j) (hi : qx_Inp inp a_inputSize a_inputs) (R : qx_R K A inp i N E a_levelOf a_head a_data a_lanes a_element a_outside a_blockKind) (hk : K i < 3)
    (H : qx_Next post K A inp i f_size f_height f_open f_known f_resultSort f_resultSize a_inputSize a_inputs a_kind a_arg a_row a_begun a_results) :
    wpX_carry post (f_size, f_height, f_open, nI (qh K i), nI (qo K i), f_known, f_resultSort, f_resultSize, a_inputSize, a_inputs, a_kind, a_arg, a_row, a_begun, a_levelOf, a_head, a_data, a_lanes, a_element, a_outside, a_blockKind, a_results) (nI (K i)) (A i) := by
  have hb : ¬ qp_blk (K i) := by intro z; rcases z with z | z <;> omega
  have h21 : K i ≠ 21 := by omega
  have I2 := q_i2 (K := K) (A := A) (inp := inp) (fun b hb => (hi b hb).1) i (fun j hj => V j (by omega))
  have I1 := q_i1 (K := K) (A := A) i (fun j hj => V j (by omega))
  obtain ⟨v1, v2, v3, v4, v5, v6, v7⟩ := V i (Nat.le_refl i)
  have h6 := v6 hk
  have ht := qp_tk_z hk
  have hf : qh K i = qh K i - qp_tk (K i) := by omega
  have hh : qh K (i + 1) = qh K i + 1 := by rw [qh_s hb h21, ht]; omega
  have ho : qo K (i + 1) = qo K i := qo_s hb h21
  have h8 : ∀ e env, e < qh K i → (qn K A inp i e env).length ≤ 8 := fun e env he => (I2.1 e env he).2
  unfold qx_Next at H
  rw [hh, ho] at H
  have R' := R
  obtain ⟨r0, r1, r2, r3⟩ := R'
  unfold wpX_carry
  try dsimp only
  refine pk_eq (K i) 0 (fun k0 => ?_) (fun k0 => ?_)
  · try simp (disch := omega) only [qa_m8, qa_m64, qa_m512, qa_a384, qa_a64, nI_add, nI_1, nI_clamp, vp_in_nI, true_and, forall_eq]
    refine H N E _ _ _ _ _ _ _ (qx_push V hb h21 R (qh K i) 0 hf (Nat.zero_le _) pk_us (fun e he => pk_un (by omega)) (fun j hj => pk_un (by omega)) (fun j _ => rfl) ?_ ?_ h8)
    · unfold qval
      rw [if_pos k0]
      exact fun _ _ _ => rfl
    · intro l hl
      have : l = 0 := by omega
      subst this
      unfold qval
      rw [if_pos k0, k0]
      exact qx_RepN pk_us
  refine pk_eq (K i) 1 (fun k1 => ?_) (fun k1 => ?_)
  · obtain ⟨b, hb3, eb⟩ := v2 k1
    obtain ⟨i1, i2, i3⟩ := hi b hb3
    rw [eb]
    refine qx_pushInput (qh K i) b _ h6 hb3 i1 i2 (fun dt g1 g2 => ?_)
    refine H N E _ _ _ _ _ _ _ (qx_push V hb h21 R (qh K i) 0 hf (Nat.zero_le _) pk_us (fun e he => pk_un (by omega)) (fun j hj => pk_un (by omega)) (fun j hj => g2 j (by omega)) ?_ ?_ h8)
    · unfold qval
      rw [if_neg k0, if_pos k1]
      exact fun _ _ _ => rfl
    · intro l hl
      have : l = 0 := by omega
      subst this
      unfold qval
      rw [if_neg k0, if_pos k1, k1, eb, nI_clamp (by omega)]
      refine qx_RepR pk_us (fun k hk => ?_)
      try dsimp only
      rw [show 8 * (64 * qh K i + 0) + k = 512 * qh K i + k from by omega, g1 k hk]
      exact i3 k hk
  have k2 : K i = 2 := by omega
  refine pk_eq (K i) 2 (fun _ => ?_) (fun z => absurd k2 z)
  obtain ⟨b, hbo, eb⟩ := v3 k2
  rw [eb]
  have hm := r1 (b + 1) (by omega)
  have hN64 := q_pow (m := b + 1) (by have := I1.2.1; omega) hm.2
  have ho2 := I1.2.1
  refine qx_pushElement (qh K i) b (N (b + 1)) h6 (by omega) hm.1 hN64 (fun hd g1 g2 => ?_)
  refine H N E _ _ _ _ _ _ _ (qx_push V hb h21 R (qh K i) (b + 1) hf (by omega) pk_us (fun e he => pk_un (by omega)) (fun j hj => g2 j (by omega)) (fun j hj => rfl) ?_ ?_ h8)
  · unfold qval
    rw [if_neg k0, if_neg k1, if_pos k2, eb, nI_clamp (by omega)]
    intro env env' he
    dsimp only
    rw [he b (by omega)]
  · intro l hl
    unfold qval
    rw [if_neg k0, if_neg k1, if_pos k2, k2, eb, nI_clamp (by omega)]
    refine qx_RepN ?_
    try dsimp only
    rw [g1 l hl]
    obtain ⟨n1, n2⟩ := (r2 b hbo).2
    have hl' : l < qoff (fun p => (qr K A inp i b (E b p)).length) (N b) := by rw [← n1]; exact hl
    obtain ⟨p, k, hp, hk, ex⟩ := qoff_find _ hl'
    obtain ⟨c1, c2, c3⟩ := n2 p k hp hk
    rw [← ex] at c2 c3
    rw [c2, c3, pk_us]
    rfl
theorem qx_tokC {post : SX → Prop} (V : ∀ j, j ≤ i → qv K A j) (hi : qx_Inp inp a_inputSize a_inputs) (R : qx_R K A inp i N E a_levelOf a_head a_data a_lanes a_element a_outside a_blockKind) (hk : 3 ≤ K i) (hk2 : K i < 19)
    (H : qx_Next post K A inp i f_size f_height f_open f_known f_resultSort f_resultSize a_inputSize a_inputs a_kind a_arg a_row a_begun a_results) :
    wpX_combine post (f_size, f_height, f_open, nI (qh K i), nI (qo K i), f_known, f_resultSort, f_resultSize, a_inputSize, a_inputs, a_kind, a_arg, a_row, a_begun, a_levelOf, a_head, a_data, a_lanes, a_element, a_outside, a_blockKind, a_results) (nI (K i)) := by
  have hb : ¬ qp_blk (K i) := by intro z; rcases z with z | z <;> omega
  have h21 : K i ≠ 21 := by omega
  have I2 := q_i2 (K := K) (A := A) (inp := inp) (fun b hb => (hi b hb).1) i (fun j hj => V j (by omega))
  have I1 := q_i1 (K := K) (A := A) i (fun j hj => V j (by omega))
  have h8 : ∀ e env, e < qh K i → (qn K A inp i e env).length ≤ 8 := fun e env he => (I2.1 e env he).2
  obtain ⟨v1, v2, v3, v4, v5, v6, v7⟩ := V i (Nat.le_refl i)
  obtain ⟨w1, w2⟩ := v5 h21
  have h6 := I1.1
  have ho2 := I1.2.1
  have ht := qp_tk_0 hk
  have ht3 := qp_tk_le (K i)
  obtain ⟨f, hf⟩ : ∃ f, qh K i = f + qp_tk (K i) := ⟨qh K i - qp_tk (K i), by omega⟩
  have hh : qh K (i + 1) = f + 1 := by rw [qh_s hb h21]; omega
  have ho : qo K (i + 1) = qo K i := qo_s hb h21
  unfold qx_Next at H
  rw [hh, ho] at H
  have R' := R
  obtain ⟨r0, r1, r2, r3⟩ := R'
  have h64 : ∀ m, m ≤ qo K i → N m ≤ 64 := fun m hm => q_pow (by omega) (r1 m hm).2
  have hlv : ∀ j, ∃ lv, j < qp_tk (K i) → a_levelOf (f + j) = nI lv ∧ lv ≤ qo K i ∧ q_dep lv (qn K A inp i (f + j)) ∧ ∀ l, l < N lv → qx_Rep a_head a_data (f + j) l (qp_wr (K i) j) (qn K A inp i (f + j) (E lv l)) := by
    intro j
    by_cases hj : j < qp_tk (K i)
    · obtain ⟨lv, a1, a2, a3, a4, a5⟩ := r3 (f + j) (by omega)
      refine ⟨lv, fun _ => ⟨a1, a2, a4, ?_⟩⟩
      have := w2 j hj
      rw [show qh K i - qp_tk (K i) + j = f + j from by omega] at this
      rw [this] at a5
      exact a5
    · exact ⟨0, fun z => absurd z hj⟩
  obtain ⟨lv, hl⟩ : ∃ lv : Nat → Nat, ∀ j, j < qp_tk (K i) → a_levelOf (f + j) = nI (lv j) ∧ lv j ≤ qo K i ∧ q_dep (lv j) (qn K A inp i (f + j)) ∧ ∀ l, l < N (lv j) → qx_Rep a_head a_data (f + j) l (qp_wr (K i) j) (qn K A inp i (f + j) (E (lv j) l)) := ⟨fun j => (hlv j).choose, fun j => (hlv j).choose_spec⟩
  clear hlv
  obtain ⟨at', hat⟩ : ∃ at', at' = qx_mx lv (qp_tk (K i)) := ⟨_, rfl⟩
  have hge : ∀ j, j < qp_tk (K i) → lv j ≤ at' := by
    intro j hj
    rw [hat]
    exact qx_mx_ge lv _ j hj
  have hle : at' ≤ qo K i := by
    rw [hat]
    exact qx_mx_le _ (fun j hj => (hl j hj).2.1)
  have hN := r1 at' hle
  rw [hf]
  refine qx_combine (K i) f at' (N at') lv (fun j l => qn K A inp i (f + j) (E at' l)) ⟨hk, hk2⟩ (by omega) (fun j hj => ⟨(hl j hj).1, by have := (hl j hj).2.1; omega⟩) hat hN.1 (h64 at' hle) ?_ ?_
  · intro j l hj hl1
    obtain ⟨a1, a2, a3, a4⟩ := hl j hj
    obtain ⟨own, o1, o2, o3⟩ := qx_lane (qr K A inp i) (qo K i) at' (f + j) (lv j) l (fun b hb => (r2 b hb).2) r0 h64 ho2 a1 (hge j hj) hle hl1
    refine ⟨own, o2, ?_, h8 _ _ (by omega)⟩
    rw [← a3 (E (lv j) own) (E at' l) o3]
    exact a4 own o1
  · intro hd dt g1 g2 g3
    have eq : qval (K i) (A i) inp (qn K A inp i) f = fun env => qp_op (K i) (qn K A inp i f env) (qn K A inp i (f + 1) env) (qn K A inp i (f + 2) env) := by
      unfold qval
      rw [if_neg (by omega), if_neg (by omega), if_neg (by omega)]
    refine H N E _ _ _ _ _ _ _ (qx_push V hb h21 R f at' (by omega) hle pk_us (fun e he => pk_un (by omega)) (fun j hj => g2 j (by omega) (by omega)) (fun j hj => g3 j (by omega) (by omega)) ?_ ?_ h8)
    · refine qval_dep (fun z => absurd z (by omega)) (by omega) (fun j hj => q_dep_mono (hge j hj) (hl j hj).2.2.1)
    · intro l hl1
      rw [eq]
      exact g1 l hl1
theorem qx_tokB {post : SX → Prop} (V : ∀ j, j ≤ i → qv K A j) (hi : qx_Inp inp a_inputSize a_inputs) (R : qx_R K A inp i N E a_levelOf a_head a_data a_lanes a_element a_outside a_blockKind) (hk : qp_blk (K i))
    (H : qx_Next post K A inp i f_size f_height f_open f_known f_resultSort f_resultSize a_inputSize a_inputs a_kind a_arg a_row a_begun a_results) :
    wpX_begin post (f_size, f_height, f_open, nI (qh K i), nI (qo K i), f_known, f_resultSort, f_resultSize, a_inputSize, a_inputs, a_kind, a_arg, a_row, a_begun, a_levelOf, a_head, a_data, a_lanes, a_element, a_outside, a_blockKind, a_results) (nI (K i)) := by
  have h21 : K i ≠ 21 := by intro z; rcases hk with hk | hk <;> omega
  have ht : qp_tk (K i) = 1 := by rcases hk with hk | hk <;> rw [hk] <;> rfl
  have hwr : qp_wr (K i) 0 = true := by rcases hk with hk | hk <;> rw [hk] <;> rfl
  have I2 := q_i2 (K := K) (A := A) (inp := inp) (fun b hb => (hi b hb).1) i (fun j hj => V j (by omega))
  have I1 := q_i1 (K := K) (A := A) i (fun j hj => V j (by omega))
  have h8 : ∀ e env, e < qh K i → (qn K A inp i e env).length ≤ 8 := fun e env he => (I2.1 e env he).2
  obtain ⟨v1, v2, v3, v4, v5, v6, v7⟩ := V i (Nat.le_refl i)
  obtain ⟨w1, w2⟩ := v5 h21
  have ho1 := v7 hk
  have h6 := I1.1
  obtain ⟨d, hd⟩ : ∃ d, qh K i = d + 1 := ⟨qh K i - 1, by omega⟩
  have hw : qw K i d = true := by
    have := w2 0 (by omega)
    rw [hwr, ht, show qh K i - 1 + 0 = d from by omega] at this
    exact this
  have hh : qh K (i + 1) = d := by rw [qh_b hk]; omega
  have ho : qo K (i + 1) = qo K i + 1 := qo_b hk
  unfold qx_Next at H
  rw [hh, ho] at H
  obtain ⟨r0, r1, r2, r3⟩ := R
  have h64 : ∀ m, m ≤ qo K i → N m ≤ 64 := fun m hm => q_pow (by omega) (r1 m hm).2
  have hNo := r1 (qo K i) (Nat.le_refl _)
  have hN8 := q_pow1 (by omega) hNo.2
  obtain ⟨lv, a1, a2, a3, a4, a5⟩ := r3 d (by omega)
  rw [hd]
  refine qx_begin d (qo K i) (N (qo K i)) (K i) (fun p => qn K A inp i d (E (qo K i) p)) (by omega) ho1 hNo.1 hN8 ?_ ?_
  · intro p hp
    have hown : ∃ own, own < N lv ∧ (∀ ou : Nat → Int32, qx_LA a_levelOf ou d (qo K i) p own) ∧ ∀ c, c < lv → E lv own c = E (qo K i) p c := by
      by_cases z : lv = qo K i
      · subst z
        exact ⟨p, hp, fun ou => ⟨by omega, by omega, _, by omega, a1, Or.inl ⟨rfl, rfl⟩⟩, fun c _ => rfl⟩
      · have z0 : lv = 0 := by omega
        subst z0
        exact ⟨0, by omega, fun ou => ⟨by omega, by omega, 0, by omega, a1, Or.inr (Or.inl ⟨z, rfl, rfl⟩)⟩, fun c hc => absurd hc (Nat.not_lt_zero c)⟩
    obtain ⟨own, o1, o2, o3⟩ := hown
    have r := a5 own o1
    rw [a4 _ _ o3, hw] at r
    exact ⟨own, o2, (r.1 rfl).1, h8 _ _ (by omega), (r.1 rfl).2⟩
  · intro el ou g1 g2
    refine H (fun m => if m = qo K i + 1 then qoff (fun p => (qn K A inp i d (E (qo K i) p)).length) (N (qo K i)) else N m)
      (fun m l => if m = qo K i + 1 then upd (E (qo K i) (ou (64 * qo K i + l)).toNatClampNeg) (qo K i) (el (64 * qo K i + l)) else E m l) _ _ _ _ _ _ _ ⟨?_, ?_, ?_, ?_⟩
    · try dsimp only
      rw [if_neg (by omega)]; exact r0
    · intro m hm
      rw [ho] at hm
      try dsimp only
      by_cases z : m = qo K i + 1
      · rw [if_pos z, z, pk_us]
        refine ⟨rfl, ?_⟩
        have := qoff_le (f := fun p => (qn K A inp i d (E (qo K i) p)).length) (N (qo K i)) (fun p _ => h8 d _ (by omega))
        rw [Nat.pow_succ]
        have := hNo.2
        omega
      · rw [if_neg z, pk_un z]
        exact r1 m (by omega)
    · intro b hb
      rw [ho] at hb
      rw [qb_b hk, qr_b hk]
      try dsimp only
      by_cases z : b = qo K i
      · subst z
        rw [if_pos rfl, if_pos rfl, pk_us]
        refine ⟨rfl, ?_⟩
        unfold qx_Enum
        simp only [if_true, show qh K i - 1 = d from by omega, if_neg (show ¬ qo K i = qo K i + 1 from by omega)]
        refine ⟨by trivial, fun p k hp hk1 => ?_⟩
        obtain ⟨c1, c2⟩ := g1 p k hp hk1
        refine ⟨c1, c2, ?_⟩
        rw [c1, c2, nI_clamp (by omega)]
      · rw [if_neg z, if_neg z, pk_un z]
        obtain ⟨b1, b2, b3⟩ := r2 b (by omega)
        refine ⟨b1, ?_⟩
        unfold qx_Enum
        simp only [if_neg (show ¬ b = qo K i + 1 from by omega), if_neg (show ¬ b + 1 = qo K i + 1 from by omega)]
        refine ⟨b2, fun p k hp hk1 => ?_⟩
        obtain ⟨c1, c2, c3⟩ := b3 p k hp hk1
        have hlt : qoff (fun p => (qr K A inp i b (E b p)).length) p + k < N (b + 1) := by
          rw [b2]
          have m1 := qoff_mono (fun p => (qr K A inp i b (E b p)).length) (p := p + 1) (n := N b) (by omega)
          have m2 := qoff_s (fun p => (qr K A inp i b (E b p)).length) p
          try dsimp only at m2
          omega
        have := h64 (b + 1) (by omega)
        obtain ⟨d1, d2⟩ := g2 (64 * b + (qoff (fun p => (qr K A inp i b (E b p)).length) p + k)) (by omega)
        rw [d1, d2]
        exact ⟨c1, c2, c3⟩
    · intro e he
      rw [hh] at he
      rw [ho, qf_b hk, qw_b hk, qn_b hk]
      obtain ⟨lv', c1, c2, c3, c4, c5⟩ := r3 e (by omega)
      refine ⟨lv', c1, by omega, fun b hb hb2 => ?_, c4, fun l hl => ?_⟩
      · try dsimp only at hb2
        by_cases z : b = qo K i
        · rw [z]; exact c2
        · rw [if_neg z] at hb2
          exact c3 b (by omega) hb2
      · try dsimp only at hl ⊢
        rw [if_neg (by omega)] at hl ⊢
        exact c5 l hl
theorem qx_tokE {post : SX → Prop} (V : ∀ j, j ≤ i → qv K A j) (hi : qx_Inp inp a_inputSize a_inputs) (R : qx_R K A inp i N E a_levelOf a_head a_data a_lanes a_element a_outside a_blockKind) (hk : K i = 21)
    (H : qx_Next post K A inp i f_size f_height f_open f_known f_resultSort f_resultSize a_inputSize a_inputs a_kind a_arg a_row a_begun a_results) :
    wpX_end post (f_size, f_height, f_open, nI (qh K i), nI (qo K i), f_known, f_resultSort, f_resultSize, a_inputSize, a_inputs, a_kind, a_arg, a_row, a_begun, a_levelOf, a_head, a_data, a_lanes, a_element, a_outside, a_blockKind, a_results) := by
  have hb := qnb_e hk
  have I2 := q_i2 (K := K) (A := A) (inp := inp) (fun b hb => (hi b hb).1) i (fun j hj => V j (by omega))
  have I1 := q_i1 (K := K) (A := A) i (fun j hj => V j (by omega))
  have I3 := q_i3 (K := K) (A := A) (inp := inp) (i + 1) (fun j hj => V j (by omega))
  have h8 : ∀ e env, e < qh K i → (qn K A inp i e env).length ≤ 8 := fun e env he => (I2.1 e env he).2
  obtain ⟨v1, v2, v3, v4, v5, v6, v7⟩ := V i (Nat.le_refl i)
  obtain ⟨w1, w2, w3⟩ := v4 hk
  have h6 := I1.1
  have ho2 := I1.2.1
  obtain ⟨o, ho⟩ : ∃ o, qo K i = o + 1 := ⟨qo K i - 1, by omega⟩
  obtain ⟨d, hd⟩ : ∃ d, qh K i = d + 1 := ⟨qh K i - 1, by omega⟩
  have ho' : qo K (i + 1) = o := by rw [qo_e hk]; omega
  have hh : qh K (i + 1) = d + 1 := by rw [qh_e hk]; exact hd
  rw [show qh K i - 1 = d from by omega] at w3
  rw [show qo K i - 1 = o from by omega] at w2
  have I4 := q_i4 (K := K) (A := A) (inp := inp) i (fun j hj => V j (by omega)) o (by omega)
  unfold qx_Next at H
  rw [hh, ho'] at H
  obtain ⟨r0, r1, r2, r3⟩ := R
  have h64 : ∀ m, m ≤ qo K i → N m ≤ 64 := fun m hm => q_pow (by omega) (r1 m hm).2
  have hNo := r1 o (by omega)
  have hN1 := r1 (o + 1) (by omega)
  have hN8 := q_pow1 (by omega) hNo.2
  obtain ⟨k1, n1, n2⟩ := r2 o (by omega)
  obtain ⟨lv, a1, a2, a3, a4, a5⟩ := r3 d (by omega)
  rw [w3] at a5
  rw [hd, ho]
  refine qx_end d o (N o) (K (qb K i o)) (fun p => qr K A inp i o (E o p)) (fun p e => (qn K A inp i d (upd (E o p) o e)).getD 0 0) (by omega) (by omega) hNo.1 hN8 ?_ I4.2.1 k1 (fun p _ => I2.2 o _ (by omega)) (fun p k hp hk1 => ⟨(n2 p k hp hk1).1, (n2 p k hp hk1).2.1⟩) ?_ ?_
  · rw [← n1]; exact hN1.1
  · intro p k hp hk1
    obtain ⟨c1, c2, c3⟩ := n2 p k hp hk1
    have hlt : qoff (fun p => (qr K A inp i o (E o p)).length) p + k < N (o + 1) := by
      rw [n1]
      have m1 := qoff_mono (fun p => (qr K A inp i o (E o p)).length) (p := p + 1) (n := N o) (by omega)
      have m2 := qoff_s (fun p => (qr K A inp i o (E o p)).length) p
      try dsimp only at m2
      omega
    obtain ⟨own, o1, o2, o3⟩ := qx_lane (qr K A inp i) (qo K i) (o + 1) d lv _ (fun b hb => (r2 b hb).2) r0 h64 ho2 a1 (by omega) (by omega) hlt
    refine ⟨own, o2, ?_⟩
    rw [(a5 own o1).2 rfl, a4 _ _ o3, c3]
  · intro hd' dt' g1 g2 g3
    refine H N E _ _ _ _ _ _ _ ⟨r0, fun m hm => r1 m (by omega), fun b hb1 => ?_, fun e he => ?_⟩
    · rw [ho'] at hb1
      rw [qb_n hb, qr_n hb]
      exact r2 b (by omega)
    · rw [hh] at he
      rw [ho', qf_n hb, qw_e hk, qn_e hk]
      try dsimp only
      rw [show qh K i - 1 = d from by omega, show qo K i - 1 = o from by omega]
      by_cases z : e = d
      · have i3 := I3.1 e (by rw [hh]; exact he)
        rw [ho', qn_e hk] at i3
        try dsimp only at i3
        rw [show qh K i - 1 = d from by omega, show qo K i - 1 = o from by omega, if_pos z] at i3
        rw [if_pos z, if_pos z]
        subst z
        refine ⟨o, pk_us, Nat.le_refl o, fun b hb1 hb2 => ?_, i3, fun l hl => g1 l hl⟩
        have := I1.2.2.2 b o (by omega) (by omega)
        omega
      · rw [if_neg z, if_neg z]
        obtain ⟨lv', c1, c2, c3, c4, c5⟩ := r3 e (by omega)
        have hle : lv' ≤ o := c3 o (by omega) (by omega)
        have hl64 := h64 lv' (by omega)
        refine ⟨lv', by rw [pk_un z]; exact c1, hle, fun b hb1 hb2 => c3 b (by omega) hb2, c4, fun l hl => ?_⟩
        obtain ⟨b1, b2⟩ := c5 l hl
        refine ⟨fun w => ⟨?_, fun k hk => ?_⟩, fun w => ?_⟩
        · rw [g2 _ (by omega) (by omega)]; exact (b1 w).1
        · have := h8 e (E lv' l) (by omega)
          rw [g3 _ (by omega) (by omega)]; exact (b1 w).2 k hk
        · rw [g2 _ (by omega) (by omega)]; exact b2 w
theorem qx_carry {post : SX → Prop} (V : ∀ j, j ≤ i → qv K A j) (hi : qx_Inp inp a_inputSize a_inputs) (R : qx_R K A inp i N E a_levelOf a_head a_data a_lanes a_element a_outside a_blockKind)
    (H : qx_Next post K A inp i f_size f_height f_open f_known f_resultSort f_resultSize a_inputSize a_inputs a_kind a_arg a_row a_begun a_results) :
    wpX_carry post (f_size, f_height, f_open, nI (qh K i), nI (qo K i), f_known, f_resultSort, f_resultSize, a_inputSize, a_inputs, a_kind, a_arg, a_row, a_begun, a_levelOf, a_head, a_data, a_lanes, a_element, a_outside, a_blockKind, a_results) (nI (K i)) (A i) := by
  have v1 := (V i (Nat.le_refl i)).1
  by_cases h3 : K i < 3
  · exact qx_tok0 V hi R h3 H
  · unfold wpX_carry
    try dsimp only
    refine pk_eq (K i) 0 (fun z => absurd z (by omega)) (fun _ => ?_)
    refine pk_eq (K i) 1 (fun z => absurd z (by omega)) (fun _ => ?_)
    refine pk_eq (K i) 2 (fun z => absurd z (by omega)) (fun _ => ?_)
    refine pk_eq (K i) 19 (fun z => ?_) (fun n19 => ?_)
    · exact qx_tokB (post := fun u => match u with | (f_size_6, f_height_6, f_open_6, f_depth_6, f_level_6, f_known_6, f_resultSort_6, f_resultSize_6, a_inputSize_6, a_inputs_6, a_kind_6, a_arg_6, a_row_6, a_begun_6, a_levelOf_6, a_head_6, a_data_6, a_lanes_6, a_element_6, a_outside_6, a_blockKind_6, a_results_6) => post (f_size_6, f_height_6, f_open_6, f_depth_6, f_level_6, f_known_6, f_resultSort_6, f_resultSize_6, a_inputSize_6, a_inputs_6, a_kind_6, a_arg_6, a_row_6, a_begun_6, a_levelOf_6, a_head_6, a_data_6, a_lanes_6, a_element_6, a_outside_6, a_blockKind_6, a_results_6)) V hi R (Or.inl z) H
    refine pk_eq (K i) 20 (fun z => ?_) (fun n20 => ?_)
    · exact qx_tokB (post := fun u => match u with | (f_size_6, f_height_6, f_open_6, f_depth_6, f_level_6, f_known_6, f_resultSort_6, f_resultSize_6, a_inputSize_6, a_inputs_6, a_kind_6, a_arg_6, a_row_6, a_begun_6, a_levelOf_6, a_head_6, a_data_6, a_lanes_6, a_element_6, a_outside_6, a_blockKind_6, a_results_6) => post (f_size_6, f_height_6, f_open_6, f_depth_6, f_level_6, f_known_6, f_resultSort_6, f_resultSize_6, a_inputSize_6, a_inputs_6, a_kind_6, a_arg_6, a_row_6, a_begun_6, a_levelOf_6, a_head_6, a_data_6, a_lanes_6, a_element_6, a_outside_6, a_blockKind_6, a_results_6)) V hi R (Or.inr z) H
    refine pk_eq (K i) 21 (fun z => ?_) (fun n21 => ?_)
    · exact qx_tokE (post := fun u => match u with | (f_size_6, f_height_6, f_open_6, f_depth_6, f_level_6, f_known_6, f_resultSort_6, f_resultSize_6, a_inputSize_6, a_inputs_6, a_kind_6, a_arg_6, a_row_6, a_begun_6, a_levelOf_6, a_head_6, a_data_6, a_lanes_6, a_element_6, a_outside_6, a_blockKind_6, a_results_6) => post (f_size_6, f_height_6, f_open_6, f_depth_6, f_level_6, f_known_6, f_resultSort_6, f_resultSize_6, a_inputSize_6, a_inputs_6, a_kind_6, a_arg_6, a_row_6, a_begun_6, a_levelOf_6, a_head_6, a_data_6, a_lanes_6, a_element_6, a_outside_6, a_blockKind_6, a_results_6)) V hi R z H
    · exact qx_tokC (post := fun u => match u with | (f_size_6, f_height_6, f_open_6, f_depth_6, f_level_6, f_known_6, f_resultSort_6, f_resultSize_6, a_inputSize_6, a_inputs_6, a_kind_6, a_arg_6, a_row_6, a_begun_6, a_levelOf_6, a_head_6, a_data_6, a_lanes_6, a_element_6, a_outside_6, a_blockKind_6, a_results_6) => post (f_size_6, f_height_6, f_open_6, f_depth_6, f_level_6, f_known_6, f_resultSort_6, f_resultSize_6, a_inputSize_6, a_inputs_6, a_kind_6, a_arg_6, a_row_6, a_begun_6, a_levelOf_6, a_head_6, a_data_6, a_lanes_6, a_element_6, a_outside_6, a_blockKind_6, a_results_6)) V hi R (by omega) (by omega) H
end
end
section
/-! X: the whole program carried out -/
def q_Res (K : Nat → Nat) (A : Nat → Int32) (inp : Nat → List Int32) (n : Nat) (rs rz : Int32) (res : Nat → Int32) : Prop :=
  ((qo K n = 0 ∧ qh K n = 1) → rs = (if qw K n 0 = true then 2 else 1) ∧ rz = nI (qn K A inp n 0 (fun _ => 0)).length ∧ ∀ k, k < (qn K A inp n 0 (fun _ => 0)).length → res k = (qn K A inp n 0 (fun _ => 0)).getD k 0)
  ∧ (¬ (qo K n = 0 ∧ qh K n = 1) → rs = 0 ∧ rz = 0)
section
variable {f_size f_height f_open f_depth f_level f_known f_resultSort f_resultSize : Int32} {a_inputSize a_inputs a_kind a_arg a_row a_begun a_levelOf a_head a_data a_lanes a_element a_outside a_blockKind a_results : Nat → Int32}
theorem qx_work131 {post : SX → Prop} (L : List Int32) (w : Bool) (h8 : L.length ≤ 8) (hw : a_row 0 = qp_b w) (hr : qx_Rep a_head a_data 0 0 w L) (h1 : w = false → L.length = 1)
    (H : ∀ res : Nat → Int32, (∀ k, k < L.length → res k = L.getD k 0) → post (f_size, f_height, f_open, f_depth, f_level, f_known, f_resultSort, nI L.length, a_inputSize, a_inputs, a_kind, a_arg, a_row, a_begun, a_levelOf, a_head, a_data, a_lanes, a_element, a_outside, a_blockKind, res)) :
    ∃ n, wX_work_131 post f_size f_height f_open f_depth f_level f_known f_resultSort (nI L.length) n 0 a_inputSize a_inputs a_kind a_arg a_row a_begun a_levelOf a_head a_data a_lanes a_element a_outside a_blockKind a_results := by
  refine loop_0 (fun n x (res : Nat → Int32) => wX_work_131 post f_size f_height f_open f_depth f_level f_known f_resultSort (nI L.length) n (nI x) a_inputSize a_inputs a_kind a_arg a_row a_begun a_levelOf a_head a_data a_lanes a_element a_outside a_blockKind res) (fun x res => ∀ k, k < x → res k = L.getD k 0) L.length a_results (fun k h => absurd h (Nat.not_lt_zero k)) ?_ ?_
  · intro n res h
    exact br_t (qa_le (Nat.le_refl _)) (H res h)
  · intro n x res hx h Kc
    refine br_f (qa_nle hx) ?_
    cases w with
    | false =>
      refine br_t hw ?_
      have e0 : a_head 0 = L.getD 0 0 := hr.2 rfl
      have hx0 : x = 0 := by have := h1 rfl; omega
      subst hx0
      try simp (disch := omega) only [qa_m8, qa_m64, qa_m512, qa_a384, qa_a64, nI_add, nI_1, nI_clamp, vp_in_nI, true_and, forall_eq, e0]
      refine Kc _ (fun k hk => ?_)
      have : k = 0 := by omega
      rw [this, pk_us]
    | true =>
      refine br_f (by rw [hw]; decide) ?_
      have e0 : a_data x = L.getD x 0 := by
        have := (hr.1 rfl).2 x hx
        rw [show 8 * (64 * 0 + 0) + x = x from by omega] at this
        exact this
      try simp (disch := omega) only [qa_m8, qa_m64, qa_m512, qa_a384, qa_a64, nI_add, nI_1, nI_clamp, vp_in_nI, true_and, forall_eq, e0]
      refine Kc _ (fun k hk => ?_)
      by_cases z : k = x
      · rw [z, pk_us]
      · rw [pk_un z]; exact h k (by omega)
variable {K : Nat → Nat} {A : Nat → Int32} {inp : Nat → List Int32}
theorem qx_work103 {post : SX → Prop} (n : Nat) (N : Nat → Nat) (E : Nat → Nat → qE) (V : ∀ j, j < n → qv K A j) (hi : qx_Inp inp a_inputSize a_inputs) (R : qx_R K A inp n N E a_levelOf a_head a_data a_lanes a_element a_outside a_blockKind) (h0 : qo K n = 0) (h1 : qh K n = 1)
    (hrow : ∀ e, e < qh K n → a_row e = qp_b (qw K n e))
    (H : ∀ (rs rz : Int32) (res : Nat → Int32), q_Res K A inp n rs rz res → post (f_size, f_height, f_open, f_depth, f_level, f_known, rs, rz, a_inputSize, a_inputs, a_kind, a_arg, a_row, a_begun, a_levelOf, a_head, a_data, a_lanes, a_element, a_outside, a_blockKind, res)) :
    ((a_row 0 = 0 → wX_work_103 post 1 f_size f_height f_open f_depth f_level f_known f_resultSort f_resultSize a_inputSize a_inputs a_kind a_arg a_row a_begun a_levelOf a_head a_data a_lanes a_element a_outside a_blockKind a_results) ∧ (¬ a_row 0 = 0 → wX_work_103 post 2 f_size f_height f_open f_depth f_level f_known f_resultSort f_resultSize a_inputSize a_inputs a_kind a_arg a_row a_begun a_levelOf a_head a_data a_lanes a_element a_outside a_blockKind a_results)) := by
  have I2 := q_i2 (K := K) (A := A) (inp := inp) (fun b hb => (hi b hb).1) n V
  obtain ⟨r0, r1, r2, r3⟩ := R
  obtain ⟨lv, a1, a2, a3, a4, a5⟩ := r3 0 (by omega)
  rw [h0] at a2
  have z : lv = 0 := by omega
  subst z
  have a5 := a5 0 (by omega)
  rw [a4 (E 0 0) (fun _ => 0) (fun c hc => absurd hc (Nat.not_lt_zero c))] at a5
  have hw := hrow 0 (by omega)
  obtain ⟨l1, l8⟩ := I2.1 0 (fun _ => 0) (by omega)
  have fin : ∀ rs : Int32, rs = (if qw K n 0 = true then 2 else 1) → ∃ m, wX_work_131 post f_size f_height f_open f_depth f_level f_known rs (nI (qn K A inp n 0 (fun _ => 0)).length) m 0 a_inputSize a_inputs a_kind a_arg a_row a_begun a_levelOf a_head a_data a_lanes a_element a_outside a_blockKind a_results := by
    intro rs hrs
    refine qx_work131 (qn K A inp n 0 (fun _ => 0)) (qw K n 0) l8 hw a5 l1 (fun res hres => H rs _ res ⟨fun _ => ⟨hrs, rfl, hres⟩, fun z => absurd ⟨h0, h1⟩ z⟩)
  by_cases w : qw K n 0 = true
  · have hne : ¬ a_row 0 = 0 := by rw [hw, w]; decide
    have e0 : a_head 0 = nI (qn K A inp n 0 (fun _ => 0)).length := (a5.1 w).1
    refine br_f hne ?_
    unfold wX_work_103
    refine br_f hne (nm_r e0 ?_)
    exact fin 2 (by rw [if_pos w])
  · have w' : qw K n 0 = false := by cases h : qw K n 0 <;> simp_all
    have he : a_row 0 = 0 := by rw [hw, w']; rfl
    refine br_t he ?_
    unfold wX_work_103
    refine br_t he ?_
    have := fin 1 (by rw [if_neg w])
    rw [l1 w'] at this
    exact this
theorem qx_work58 {post : SX → Prop} (n : Nat) (hn : n ≤ 40) (V : ∀ j, j < n → qv K A j) (hi : qx_Inp inp a_inputSize a_inputs) (hp : ∀ j, j < n → a_kind j = nI (K j) ∧ a_arg j = A j) (h0 : qo K n = 0) (h1 : qh K n = 1)
    (hrow : ∀ e, e < qh K n → a_row e = qp_b (qw K n e))
    (H : ∀ (dp le rs rz : Int32) (lo hd dt la el ou bk res : Nat → Int32), q_Res K A inp n rs rz res → post (nI n, f_height, f_open, dp, le, f_known, rs, rz, a_inputSize, a_inputs, a_kind, a_arg, a_row, a_begun, lo, hd, dt, la, el, ou, bk, res)) :
    ∀ (m i : Nat) (N : Nat → Nat) (E : Nat → Nat → qE) (lo hd dt la el ou bk : Nat → Int32), i + m = n → qx_R K A inp i N E lo hd dt la el ou bk →
      wX_work_58 post (m + 1) (nI i) (nI n) f_height f_open (nI (qh K i)) (nI (qo K i)) f_known f_resultSort f_resultSize a_inputSize a_inputs a_kind a_arg a_row a_begun lo hd dt la el ou bk a_results := by
  intro m
  induction m with
  | zero =>
    intro i N E lo hd dt la el ou bk hm R
    have : i = n := by omega
    subst this
    refine br_t (qa_le (Nat.le_refl _)) ?_
    exact qx_work103 i N E V hi R h0 h1 hrow (fun rs rz res hr => H _ _ rs rz lo hd dt la el ou bk res hr)
  | succ m ih =>
    intro i N E lo hd dt la el ou bk hm R
    refine br_f (qa_nle (by omega)) ?_
    obtain ⟨p1, p2⟩ := hp i (by omega)
    try simp (disch := omega) only [qa_m8, qa_m64, qa_m512, qa_a384, qa_a64, nI_add, nI_1, nI_clamp, vp_in_nI, true_and, forall_eq, p1, p2]
    refine qx_carry (fun j hj => V j (by omega)) hi R ?_
    intro N' E' lo' hd' dt' la' el' ou' bk' R'
    try dsimp only
    exact ih (i + 1) N' E' lo' hd' dt' la' el' ou' bk' (by omega) R'
theorem qx_work {post : SX → Prop} (n : Nat) (hn : n ≤ 40) (V : ∀ j, j < n → qv K A j) (hi : qx_Inp inp a_inputSize a_inputs) (hp : ∀ j, j < n → a_kind j = nI (K j) ∧ a_arg j = A j)
    (hrow : ∀ e, e < qh K n → a_row e = qp_b (qw K n e)) (hk : f_known = 0 ∨ (f_known = 1 ∧ q_Res K A inp n f_resultSort f_resultSize a_results))
    (H : ∀ (dp le rs rz : Int32) (lo hd dt la el ou bk res : Nat → Int32), q_Res K A inp n rs rz res → post (nI n, nI (qh K n), nI (qo K n), dp, le, 1, rs, rz, a_inputSize, a_inputs, a_kind, a_arg, a_row, a_begun, lo, hd, dt, la, el, ou, bk, res)) :
    wpX_work post (nI n, nI (qh K n), nI (qo K n), f_depth, f_level, f_known, f_resultSort, f_resultSize, a_inputSize, a_inputs, a_kind, a_arg, a_row, a_begun, a_levelOf, a_head, a_data, a_lanes, a_element, a_outside, a_blockKind, a_results) := by
  have I1 := q_i1 (K := K) (A := A) n V
  have h6 := I1.1
  have ho2 := I1.2.1
  unfold wpX_work
  try dsimp only
  rcases hk with hk | ⟨hk, hr⟩
  · subst hk
    refine br_t rfl ?_
    refine pk_lt 0 (qo K n) (fun z => ?_) (fun z => ?_)
    · exact H _ _ _ _ _ _ _ _ _ _ _ _ ⟨fun w => absurd w.1 (by omega), fun _ => ⟨rfl, rfl⟩⟩
    · refine pk_eq (qh K n) 1 (fun w => ?_) (fun w => ?_)
      · refine nm_e ?_
        have h0 : qo K n = 0 := by omega
        refine ⟨n + 1, qx_work58 n hn V hi hp h0 w hrow (fun dp le rs rz lo hd dt la el ou bk res hr => H dp le rs rz lo hd dt la el ou bk res hr) n 0 (fun _ => 1) (fun _ _ _ => 0) _ _ _ _ _ _ _ (by omega) ⟨rfl, fun m hm => ?_, fun b hb => absurd hb (Nat.not_lt_zero b), fun e he => absurd he (Nat.not_lt_zero e)⟩⟩
        have : m = 0 := Nat.le_zero.mp hm
        subst this
        exact ⟨pk_us, by decide⟩
      · exact H _ _ _ _ _ _ _ _ _ _ _ _ ⟨fun y => absurd y.2 w, fun _ => ⟨rfl, rfl⟩⟩
  · subst hk
    exact br_f (by decide) (H _ _ _ _ _ _ _ _ _ _ _ _ hr)
end
end
section
/-! Y: rows on the stack -/
def qy_Rep (le va : Nat → Int32) (e : Nat) (l : List Int32) : Prop := le e = nI l.length ∧ ∀ k, k < l.length → va (8 * e + k) = l.getD k 0
theorem qp_swap {l : List Int32} {a b : Nat} (ha : a < l.length) (hb : b < l.length) : ((l.set a (l.getD b 0)).set b (l.getD a 0)).Perm l := by
  rw [qp_getD ha, qp_getD hb]; exact List.set_set_perm ha hb
theorem qp_swap_get {l : List Int32} {a b k : Nat} {x y : Int32} (ha : a < l.length) (hb : b < l.length) : ((l.set a x).set b y).getD k 0 = if k = b then y else if k = a then x else l.getD k 0 := by
  rw [List.getD_eq_getElem?_getD, List.getD_eq_getElem?_getD, List.getElem?_set, List.getElem?_set, List.length_set]
  by_cases z : b = k
  · subst z
    rw [if_pos rfl, if_pos hb, if_pos rfl]; rfl
  · have z' : ¬ k = b := fun w => z w.symm
    rw [if_neg z, if_neg z']
    by_cases z2 : a = k
    · subst z2
      rw [if_pos rfl, if_pos ha, if_pos rfl]; rfl
    · have z2' : ¬ k = a := fun w => z2 w.symm
      rw [if_neg z2, if_neg z2']
section
variable {g_count g_height g_open g_top g_depth : Int32} {b_sizes b_inputs b_kinds b_args b_rowAt b_floor b_lengths b_values b_begins b_many b_rows b_element b_outs b_out : Nat → Int32}
theorem qy_takes {post : Int32 → Prop} (k : Nat) (hk : k < 21) (H : post (nI (qp_tk k))) : wpY_takes post (g_count, g_height, g_open, g_top, g_depth, b_sizes, b_inputs, b_kinds, b_args, b_rowAt, b_floor, b_lengths, b_values, b_begins, b_many, b_rows, b_element, b_outs, b_out) (nI k) := by
  have fin : ∀ t, qp_tk k = t → post (nI t) := fun t e => by rw [← e]; exact H
  unfold wpY_takes
  refine pk_lt k 3 (fun h => fin 0 (by unfold qp_tk; (repeat' split) <;> omega)) (fun h => ?_)
  refine pk_eq k 21 (fun h => absurd h (by omega)) (fun h21 => ?_)
  refine pk_eq k 9 (fun h9 => fin 3 (by unfold qp_tk; (repeat' split) <;> omega)) (fun h9 => ?_)
  refine pk_lt k 9 (fun h8 => fin 2 (by unfold qp_tk; (repeat' split) <;> omega)) (fun h8 => ?_)
  refine pk_eq k 13 (fun h9 => fin 2 (by unfold qp_tk; (repeat' split) <;> omega)) (fun h13 => ?_)
  exact pk_eq k 15 (fun h9 => fin 2 (by unfold qp_tk; (repeat' split) <;> omega)) (fun h15 => fin 1 (by unfold qp_tk; (repeat' split) <;> omega))
theorem qy_takesE {post : Int32 → Prop} (H : post 0) : wpY_takes post (g_count, g_height, g_open, g_top, g_depth, b_sizes, b_inputs, b_kinds, b_args, b_rowAt, b_floor, b_lengths, b_values, b_begins, b_many, b_rows, b_element, b_outs, b_out) (nI 21) := by
  unfold wpY_takes
  exact br_f (by decide) (br_t (by rfl) H)
theorem qy_number {post : Int32 → Prop} (k : Nat) (n m : Int32) (h3 : 3 ≤ k) (h9 : k < 9) (H : post (qp_num k n m)) : wpY_number post (g_count, g_height, g_open, g_top, g_depth, b_sizes, b_inputs, b_kinds, b_args, b_rowAt, b_floor, b_lengths, b_values, b_begins, b_many, b_rows, b_element, b_outs, b_out) (nI k) n m := qx_worked k n m h3 h9 H
theorem qy_pushNumber {post : SY → Prop} (t : Nat) (v : Int32) (ht : t < 7) (H : post (g_count, g_height, g_open, nI (t + 1), g_depth, b_sizes, b_inputs, b_kinds, b_args, b_rowAt, b_floor, upd b_lengths t 1, upd b_values (8 * t) v, b_begins, b_many, b_rows, b_element, b_outs, b_out)) : wpY_pushNumber post (g_count, g_height, g_open, nI t, g_depth, b_sizes, b_inputs, b_kinds, b_args, b_rowAt, b_floor, b_lengths, b_values, b_begins, b_many, b_rows, b_element, b_outs, b_out) v := by
  unfold wpY_pushNumber
  try simp (disch := omega) only [qa_m8, qa_m64, qa_m512, qa_a384, qa_a64, nI_add, nI_1, nI_clamp, vp_in_nI, true_and, forall_eq]
  exact H
theorem qy_sumUpTo {post : Int32 → Prop} (t m : Nat) (x1 : Int32) (f : Nat → Int32) (ht : t < 7) (hm : m ≤ 8) (h1 : ∀ x, x ≤ 8 → (x1 < nI x ↔ m ≤ x)) (h : ∀ k, k < m → b_values (8 * t + k) = f k) (H : post (qp_sum f m)) :
    wpY_sumUpTo post (g_count, g_height, g_open, nI t, g_depth, b_sizes, b_inputs, b_kinds, b_args, b_rowAt, b_floor, b_lengths, b_values, b_begins, b_many, b_rows, b_element, b_outs, b_out) x1 := by
  unfold wpY_sumUpTo
  try dsimp only
  refine loop_0 (fun n x (s : Int32) => wY_sumUpTo_4 post x1 g_count g_height g_open (nI t) g_depth b_sizes b_inputs b_kinds b_args b_rowAt b_floor b_lengths b_values b_begins b_many b_rows b_element b_outs b_out n s (nI x)) (fun x s => s = qp_sum f x) m 0 rfl ?_ ?_
  · intro n s hs
    try dsimp only
    subst hs
    exact br_t ((h1 m hm).mpr (Nat.le_refl m)) H
  · intro n x s hx hs Kc
    try dsimp only
    refine br_f (fun z => by have := (h1 x (by omega)).mp z; omega) ?_
    try simp (disch := omega) only [qa_m8, qa_m64, qa_m512, qa_a384, qa_a64, nI_add, nI_1, nI_clamp, vp_in_nI, true_and, forall_eq]
    refine Kc _ ?_
    rw [hs, h x hx]
    rfl
theorem qy_m1 (m : Nat) (hm : m ≤ 8) : ∀ x, x ≤ 8 → (nI m - 1 < nI x ↔ m ≤ x) := by
  intro x hx
  by_cases z : m = 0
  · subst z
    rw [Int32.lt_iff_toInt_lt, nI_toInt (by omega), show (nI 0 - 1).toInt = -1 from by decide]
    omega
  · rw [qa_s1 (by omega), nI_ltI (by omega) (by omega)]
    omega
theorem qy_most {post : Int32 → Prop} (t m : Nat) (f : Nat → Int32) (ht : t < 7) (hm : m ≤ 8) (h : ∀ k, k < m → b_values (8 * t + k) = f k)
    (H : post (if m = 0 then 0 else qp_mx f (m - 1))) : wpY_most post (g_count, g_height, g_open, nI t, g_depth, b_sizes, b_inputs, b_kinds, b_args, b_rowAt, b_floor, b_lengths, b_values, b_begins, b_many, b_rows, b_element, b_outs, b_out) (nI m) := by
  unfold wpY_most
  try dsimp only
  by_cases z : m = 0
  · subst z
    refine br_t (by decide) ⟨1, ?_⟩
    exact br_t (by decide) H
  · rw [if_neg z] at H
    refine br_f (nI_nle (by omega) (by omega)) ?_
    try simp (disch := omega) only [qa_m8, qa_m64, qa_m512, qa_a384, qa_a64, nI_add, nI_1, nI_clamp, vp_in_nI, true_and, forall_eq]
    refine pk_loop (fun n x (s : Int32) => wY_most_23 post (nI m) g_count g_height g_open (nI t) g_depth b_sizes b_inputs b_kinds b_args b_rowAt b_floor b_lengths b_values b_begins b_many b_rows b_element b_outs b_out n s (nI x)) (fun x s => 1 ≤ x ∧ s = qp_mx f (x - 1)) m 1 (b_values (8 * t)) (by omega) ⟨Nat.le_refl 1, h 0 (by omega)⟩ ?_ ?_
    · intro n s ⟨_, hs⟩
      try dsimp only
      subst hs
      exact br_t (qa_le (Nat.le_refl m)) H
    · intro n x s hx ⟨h1, hs⟩ Kc
      obtain ⟨y, rfl⟩ : ∃ y, x = y + 1 := ⟨x - 1, by omega⟩
      try dsimp only
      try simp (disch := omega) only [qa_m8, qa_m64, qa_m512, qa_a384, qa_a64, nI_add, nI_1, nI_clamp, vp_in_nI, true_and, forall_eq, wY_most_23, h (y + 1) hx]
      refine br_f (qa_nle hx) ?_
      have hs' : s = qp_mx f y := hs
      subst hs'
      have e1 : qp_mx f (y + 1) = if f (y + 1) ≤ qp_mx f y then qp_mx f y else f (y + 1) := rfl
      refine br_c (fun g => Kc _ ⟨by omega, ?_⟩) (fun g => Kc _ ⟨by omega, ?_⟩)
      · show qp_mx f y = qp_mx f (y + 1)
        rw [e1, if_pos g]
      · show f (y + 1) = qp_mx f (y + 1)
        rw [e1, if_neg g]
theorem qy_up31 {post : SY → Prop} (t : Nat) (ht : t < 7)
    (H : ∀ va : Nat → Int32, (∀ k, k < 8 → va (8 * t + k) = nI k) → (∀ j, (j < 8 * t ∨ 8 * t + 8 ≤ j) → va j = b_values j) → post (g_count, g_height, g_open, nI (t + 1), g_depth, b_sizes, b_inputs, b_kinds, b_args, b_rowAt, b_floor, b_lengths, va, b_begins, b_many, b_rows, b_element, b_outs, b_out)) :
    ∃ n, wY_upTo_31 post g_count g_height g_open (nI t) g_depth n 0 b_sizes b_inputs b_kinds b_args b_rowAt b_floor b_lengths b_values b_begins b_many b_rows b_element b_outs b_out := by
  refine loop_0 (fun n x (va : Nat → Int32) => wY_upTo_31 post g_count g_height g_open (nI t) g_depth n (nI x) b_sizes b_inputs b_kinds b_args b_rowAt b_floor b_lengths va b_begins b_many b_rows b_element b_outs b_out) (fun x va => (∀ k, k < x → va (8 * t + k) = nI k) ∧ (∀ j, (j < 8 * t ∨ 8 * t + 8 ≤ j) → va j = b_values j)) 8 b_values ⟨fun k h => absurd h (Nat.not_lt_zero k), fun j _ => rfl⟩ ?_ ?_
  · intro n va ⟨h1, h2⟩
    exact br_t (qa_le (a := 8) (b := 8) (by omega)) (nm_r (nI_1 t) (H va h1 h2))
  · intro n x va hx ⟨h1, h2⟩ Kc
    refine br_f (qa_nle (b := 8) hx) ?_
    try simp (disch := omega) only [qa_m8, qa_m64, qa_m512, qa_a384, qa_a64, nI_add, nI_1, nI_clamp, vp_in_nI, true_and, forall_eq]
    refine Kc _ ⟨fun k hk => ?_, fun j hj => ?_⟩
    · by_cases z : k = x
      · rw [z, pk_us]
      · rw [pk_un (by omega)]; exact h1 k (by omega)
    · rw [pk_un (by omega)]; exact h2 j hj
theorem qy_upTo {post : SY → Prop} (t : Nat) (v : Int32) (ht : t < 7)
    (H : ∀ va : Nat → Int32, (∀ k, k < 8 → va (8 * t + k) = nI k) → (∀ j, (j < 8 * t ∨ 8 * t + 8 ≤ j) → va j = b_values j) → post (g_count, g_height, g_open, nI (t + 1), g_depth, b_sizes, b_inputs, b_kinds, b_args, b_rowAt, b_floor, upd b_lengths t (nI (qp_cl v)), va, b_begins, b_many, b_rows, b_element, b_outs, b_out)) :
    wpY_upTo post (g_count, g_height, g_open, nI t, g_depth, b_sizes, b_inputs, b_kinds, b_args, b_rowAt, b_floor, b_lengths, b_values, b_begins, b_many, b_rows, b_element, b_outs, b_out) v := by
  unfold wpY_upTo
  try simp (disch := omega) only [qa_m8, qa_m64, qa_m512, qa_a384, qa_a64, nI_add, nI_1, nI_clamp, vp_in_nI, true_and, forall_eq]
  have fin : ∀ w : Int32, w = nI (qp_cl v) → ∃ n, wY_upTo_31 post g_count g_height g_open (nI t) g_depth n 0 b_sizes b_inputs b_kinds b_args b_rowAt b_floor (upd b_lengths t w) b_values b_begins b_many b_rows b_element b_outs b_out := by
    intro w hw
    subst hw
    exact qy_up31 t ht H
  refine br_c (fun g => ?_) (fun g => ?_)
  · have g0 : ¬ v < 0 := Int32.not_lt.mpr g
    refine br_c (fun g8 => ?_) (fun g8 => ?_)
    · refine fin v ?_
      unfold qp_cl
      rw [if_neg g0, if_pos g8]
      obtain ⟨j, hj, ej⟩ := nI_of g0
      rw [ej, nI_clamp hj]
    · refine fin 8 ?_
      unfold qp_cl
      rw [if_neg g0, if_neg g8]
      rfl
  · refine fin 0 ?_
    unfold qp_cl
    rw [if_pos (Int32.not_le.mp g)]
    rfl
theorem qy_join {post : SY → Prop} (t la lb m : Nat) (ht : t < 6) (h1 : b_lengths t = nI la) (h2 : b_lengths (t + 1) = nI lb) (hla : la ≤ 8) (hlb : lb ≤ 8) (hm : m = if la + lb ≤ 8 then la + lb else 8)
    (H : ∀ va : Nat → Int32, (∀ k, k < m → va (8 * t + k) = if k < la then b_values (8 * t + k) else b_values (8 * (t + 1) + (k - la))) → (∀ j, (j < 8 * t ∨ 8 * t + 8 ≤ j) → va j = b_values j) → post (g_count, g_height, g_open, nI (t + 1), g_depth, b_sizes, b_inputs, b_kinds, b_args, b_rowAt, b_floor, upd b_lengths t (nI m), va, b_begins, b_many, b_rows, b_element, b_outs, b_out)) :
    wpY_join post (g_count, g_height, g_open, nI t, g_depth, b_sizes, b_inputs, b_kinds, b_args, b_rowAt, b_floor, b_lengths, b_values, b_begins, b_many, b_rows, b_element, b_outs, b_out) := by
  unfold wpY_join
  try simp (disch := omega) only [qa_m8, qa_m64, qa_m512, qa_a384, qa_a64, nI_add, nI_1, nI_clamp, vp_in_nI, true_and, forall_eq, h1, h2]
  have fin : ∀ va : Nat → Int32, (∀ k, k < m → va (8 * t + k) = if k < la then b_values (8 * t + k) else b_values (8 * (t + 1) + (k - la))) → (∀ j, (j < 8 * t ∨ 8 * t + 8 ≤ j) → va j = b_values j) → wY_join_76 post (nI la) (nI lb) g_count g_height g_open (nI t) g_depth b_sizes b_inputs b_kinds b_args b_rowAt b_floor b_lengths va b_begins b_many b_rows b_element b_outs b_out := by
    intro va g1 g2
    unfold wY_join_76
    try simp (disch := omega) only [qa_m8, qa_m64, qa_m512, qa_a384, qa_a64, nI_add, nI_1, nI_clamp, vp_in_nI, true_and, forall_eq]
    by_cases z : la + lb ≤ 8
    · rw [if_pos z] at hm
      subst hm
      refine br_t (qa_le (b := 8) z) ?_
      unfold wY_join_100
      try simp (disch := omega) only [qa_m8, qa_m64, qa_m512, qa_a384, qa_a64, nI_add, nI_1, nI_clamp, vp_in_nI, true_and, forall_eq]
      exact H va g1 g2
    · rw [if_neg z] at hm
      subst hm
      refine br_f (qa_nle (a := 8) (by omega)) ?_
      unfold wY_join_100
      try simp (disch := omega) only [qa_m8, qa_m64, qa_m512, qa_a384, qa_a64, nI_add, nI_1, nI_clamp, vp_in_nI, true_and, forall_eq]
      exact H va g1 g2
  have key : ∀ (d x : Nat) (va : Nat → Int32), x + d = m - la → la + x ≤ m ∨ d = 0 → (∀ k, k < x → va (8 * t + (la + k)) = b_values (8 * (t + 1) + k)) → (∀ j, (j < 8 * t + la ∨ 8 * t + la + x ≤ j) → va j = b_values j) → la + x ≤ m ∨ x = 0 →
      wY_join_24 post (nI la) (nI lb) g_count g_height g_open (nI t) g_depth (d + 1) (nI x) b_sizes b_inputs b_kinds b_args b_rowAt b_floor b_lengths va b_begins b_many b_rows b_element b_outs b_out := by
    intro d
    induction d with
    | zero =>
      intro x va hx hx2 g1 g2 g3
      have fin' := fin va (fun k hk => by
        by_cases z : k < la
        · rw [if_pos z]; exact g2 _ (by omega)
        · rw [if_neg z]
          have := g1 (k - la) (by omega)
          rw [show 8 * t + (la + (k - la)) = 8 * t + k from by omega] at this
          exact this) (fun j hj => g2 j (by
            split at hm <;> omega))
      have hm8 : m ≤ 8 := by split at hm <;> omega
      by_cases z : lb ≤ x
      · exact br_t (qa_le z) fin'
      · refine br_f (qa_nle (by omega)) ?_
        try simp (disch := omega) only [qa_m8, qa_m64, qa_m512, qa_a384, qa_a64, nI_add, nI_1, nI_clamp, vp_in_nI, true_and, forall_eq]
        refine br_t ?_ fin'
        refine qa_le (a := 8) ?_
        split at hm <;> omega
    | succ d ih =>
      intro x va hx hx2 g1 g2 g3
      refine br_f (qa_nle (by split at hm <;> omega)) ?_
      try simp (disch := omega) only [qa_m8, qa_m64, qa_m512, qa_a384, qa_a64, nI_add, nI_1, nI_clamp, vp_in_nI, true_and, forall_eq]
      refine br_f (qa_nle (b := 8) (by split at hm <;> omega)) ?_
      have h8 : la + x < 8 := by split at hm <;> omega
      simp only [show (8 : Int32) = nI 8 from rfl]
      try simp (disch := omega) only [qa_m8, qa_m64, qa_m512, qa_a384, qa_a64, nI_add, nI_1, nI_clamp, vp_in_nI, true_and, forall_eq]
      refine ih (x + 1) _ (by omega) (Or.inl (by omega)) (fun k hk => ?_) (fun j hj => ?_) (Or.inl (by omega))
      · by_cases z : k = x
        · subst z
          rw [show 8 * t + la + k = 8 * t + (la + k) from by omega, pk_us, g2 _ (by omega)]
          rfl
        · rw [pk_un (by omega)]; exact g1 k (by omega)
      · rw [pk_un (by omega)]; exact g2 j (by omega)
  refine ⟨m - la + 1, key (m - la) 0 b_values (by omega) ?_ (fun k hk => absurd hk (Nat.not_lt_zero k)) (fun j _ => rfl) (Or.inr rfl)⟩
  split at hm <;> omega
theorem qy_exchange {post : SY → Prop} (t a b : Nat) (ht : t < 7) (ha : a < 8) (hb : b < 8)
    (H : post (g_count, g_height, g_open, nI t, g_depth, b_sizes, b_inputs, b_kinds, b_args, b_rowAt, b_floor, b_lengths, upd (upd b_values (8 * t + a) (b_values (8 * t + b))) (8 * t + b) (b_values (8 * t + a)), b_begins, b_many, b_rows, b_element, b_outs, b_out)) : wpY_exchange post (g_count, g_height, g_open, nI t, g_depth, b_sizes, b_inputs, b_kinds, b_args, b_rowAt, b_floor, b_lengths, b_values, b_begins, b_many, b_rows, b_element, b_outs, b_out) (nI a) (nI b) := by
  unfold wpY_exchange
  try simp (disch := omega) only [qa_m8, qa_m64, qa_m512, qa_a384, qa_a64, nI_add, nI_1, nI_clamp, vp_in_nI, true_and, forall_eq]
  exact H
theorem qy_turn {post : SY → Prop} (t m : Nat) (l : List Int32) (ht : t < 7) (hm : m ≤ 8) (hl : l.length = m) (h : ∀ k, k < m → b_values (8 * t + k) = l.getD k 0)
    (H : ∀ va : Nat → Int32, (∀ k, k < m → va (8 * t + k) = l.getD (m - 1 - k) 0) → (∀ j, (j < 8 * t ∨ 8 * t + 8 ≤ j) → va j = b_values j) → post (g_count, g_height, g_open, nI t, g_depth, b_sizes, b_inputs, b_kinds, b_args, b_rowAt, b_floor, b_lengths, va, b_begins, b_many, b_rows, b_element, b_outs, b_out)) :
    wpY_turn post (g_count, g_height, g_open, nI t, g_depth, b_sizes, b_inputs, b_kinds, b_args, b_rowAt, b_floor, b_lengths, b_values, b_begins, b_many, b_rows, b_element, b_outs, b_out) (nI m) := by
  unfold wpY_turn
  try dsimp only
  have e2 : nI m / 2 = nI (m / 2) := pk_div (d := 2) (by omega) (by omega) (by omega)
  refine loop_0 (fun n x (va : Nat → Int32) => wY_turn_2 post (nI m) n (nI x) g_count g_height g_open (nI t) g_depth b_sizes b_inputs b_kinds b_args b_rowAt b_floor b_lengths va b_begins b_many b_rows b_element b_outs b_out) (fun x va => (∀ k, k < m → va (8 * t + k) = if k < x ∨ m - 1 - k < x then l.getD (m - 1 - k) 0 else l.getD k 0) ∧ (∀ j, (j < 8 * t ∨ 8 * t + 8 ≤ j) → va j = b_values j)) (m / 2) b_values ⟨fun k hk => by rw [if_neg (by omega)]; exact h k hk, fun j _ => rfl⟩ ?_ ?_
  · intro n va ⟨h1, h2⟩
    try dsimp only
    refine ⟨by decide, ?_⟩
    rw [e2]
    refine br_t (qa_le (Nat.le_refl _)) (H va (fun k hk => ?_) h2)
    rw [h1 k hk]
    by_cases z : k < m / 2 ∨ m - 1 - k < m / 2
    · rw [if_pos z]
    · rw [if_neg z]
      congr 1
      omega
  · intro n x va hx ⟨h1, h2⟩ Kc
    try dsimp only
    refine ⟨by decide, ?_⟩
    rw [e2]
    refine br_f (qa_nle hx) ?_
    rw [qa_s1 (by omega), pk_sub (by omega)]
    refine qy_exchange t x (m - 1 - x) ht (by omega) (by omega) ?_
    try dsimp only
    try simp (disch := omega) only [qa_m8, qa_m64, qa_m512, qa_a384, qa_a64, nI_add, nI_1, nI_clamp, vp_in_nI, true_and, forall_eq]
    refine Kc _ ⟨fun k hk => ?_, fun j hj => ?_⟩
    · by_cases z1 : k = m - 1 - x
      · subst z1
        rw [pk_us, if_pos (by omega), h1 x (by omega), if_neg (by omega)]
        congr 1
        omega
      · rw [pk_un (by omega)]
        by_cases z2 : k = x
        · subst z2
          rw [pk_us, if_pos (by omega), h1 _ (by omega), if_neg (by omega)]
        · rw [pk_un (by omega), h1 k hk]
          by_cases z3 : k < x ∨ m - 1 - k < x
          · rw [if_pos z3, if_pos (by omega)]
          · rw [if_neg z3, if_neg (by omega)]
    · rw [pk_un (by omega), pk_un (by omega)]; exact h2 j hj
theorem qy_scan {post : SY → Prop} (t m : Nat) (l : List Int32) (ht : t < 7) (hm : m ≤ 8) (hl : l.length = m) (h : ∀ k, k < m → b_values (8 * t + k) = l.getD k 0)
    (H : ∀ va : Nat → Int32, (∀ k, k < m → va (8 * t + k) = qp_sum (fun j => l.getD j 0) (k + 1)) → (∀ j, (j < 8 * t ∨ 8 * t + 8 ≤ j) → va j = b_values j) → post (g_count, g_height, g_open, nI t, g_depth, b_sizes, b_inputs, b_kinds, b_args, b_rowAt, b_floor, b_lengths, va, b_begins, b_many, b_rows, b_element, b_outs, b_out)) :
    wpY_scan post (g_count, g_height, g_open, nI t, g_depth, b_sizes, b_inputs, b_kinds, b_args, b_rowAt, b_floor, b_lengths, b_values, b_begins, b_many, b_rows, b_element, b_outs, b_out) (nI m) := by
  unfold wpY_scan
  try dsimp only
  refine nm_e ?_
  by_cases z : m = 0
  · subst z
    refine ⟨1, br_t (by decide) (H b_values (fun k hk => absurd hk (Nat.not_lt_zero k)) (fun j _ => rfl))⟩
  · rw [qa_s1 (by omega)]
    have key : ∀ (x : Nat) (va : Nat → Int32), x < m → (∀ k, k ≤ x → va (8 * t + k) = l.getD k 0) → (∀ k, x < k → k < m → va (8 * t + k) = qp_sum (fun j => l.getD j 0) (k + 1)) → (∀ j, (j < 8 * t ∨ 8 * t + 8 ≤ j) → va j = b_values j) →
        wY_scan_4 post g_count g_height g_open (nI t) g_depth (x + 1) (nI x) b_sizes b_inputs b_kinds b_args b_rowAt b_floor b_lengths va b_begins b_many b_rows b_element b_outs b_out := by
      intro x
      induction x with
      | zero =>
        intro va hx g1 g2 g3
        refine br_t (by decide) (H va (fun k hk => ?_) g3)
        by_cases z0 : k = 0
        · subst z0
          rw [g1 0 (Nat.le_refl 0)]
          show _ = (0 : Int32) + l.getD 0 0
          rw [Int32.zero_add]
        · exact g2 k (by omega) hk
      | succ x ih =>
        intro va hx g1 g2 g3
        refine br_f (nI_nle (by omega) (by omega)) ?_
        refine qy_sumUpTo t (x + 1 + 1) (nI (x + 1)) (fun j => l.getD j 0) ht (by omega) (fun y hy => by rw [nI_ltI (by omega) (by omega)]; omega) (fun k hk => g1 k (by omega)) ?_
        try simp (disch := omega) only [qa_m8, qa_m64, qa_m512, qa_a384, qa_a64, nI_add, nI_1, nI_clamp, vp_in_nI, true_and, forall_eq, qa_m1, Nat.add_sub_cancel]
        refine ih _ (by omega) (fun k hk => ?_) (fun k k1 k2 => ?_) (fun j hj => ?_)
        · rw [pk_un (by omega)]; exact g1 k (by omega)
        · by_cases z1 : k = x + 1
          · rw [z1, pk_us]
          · rw [pk_un (by omega)]; exact g2 k (by omega) k2
        · rw [pk_un (by omega)]; exact g3 j hj
    exact ⟨m - 1 + 1, key (m - 1) b_values (by omega) (fun k hk => h k (by omega)) (fun k k1 k2 => absurd k2 (by omega)) (fun j _ => rfl)⟩
/-- after x steps of the pass behind k passes -/
def qy_Bub (m k x : Nat) (c : List Int32) : Prop := ∀ j, j < m → (m ≤ j + k ∨ j = x ∨ (m = j + 1 + k ∧ j ≤ x)) → ∀ i, i < j → c.getD i 0 ≤ c.getD j 0
theorem qy_sort9 {post : SY → Prop} {J : Int32 → Int32 → Int32 → Int32 → Int32 → Int32 → (Nat → Int32) → (Nat → Int32) → (Nat → Int32) → (Nat → Int32) → (Nat → Int32) → (Nat → Int32) → (Nat → Int32) → (Nat → Int32) → (Nat → Int32) → (Nat → Int32) → (Nat → Int32) → (Nat → Int32) → (Nat → Int32) → (Nat → Int32) → Prop} (t m k : Nat) (l : List Int32) (c0 : List Int32) (ht : t < 7) (hm : m ≤ 8) (h1 : 1 ≤ m) (hk : k < m) (hc1 : c0.length = m) (hc2 : c0.Perm l) (hc3 : ∀ y, y < m → b_values (8 * t + y) = c0.getD y 0) (hc4 : ∀ j, j < m → m ≤ j + k → ∀ i, i < j → c0.getD i 0 ≤ c0.getD j 0)
    (H : ∀ (va : Nat → Int32) (c : List Int32), c.length = m → c.Perm l → (∀ y, y < m → va (8 * t + y) = c.getD y 0) → (∀ j, j < m → m ≤ j + (k + 1) → ∀ i, i < j → c.getD i 0 ≤ c.getD j 0) → (∀ j, (j < 8 * t ∨ 8 * t + 8 ≤ j) → va j = b_values j) → J (nI (k + 1)) g_count g_height g_open (nI t) g_depth b_sizes b_inputs b_kinds b_args b_rowAt b_floor b_lengths va b_begins b_many b_rows b_element b_outs b_out) :
    ∃ n, wY_sortRow_9 post J (nI m) (nI k) n 0 g_count g_height g_open (nI t) g_depth b_sizes b_inputs b_kinds b_args b_rowAt b_floor b_lengths b_values b_begins b_many b_rows b_element b_outs b_out := by
  refine loop_0 (fun n x (va : Nat → Int32) => wY_sortRow_9 post J (nI m) (nI k) n (nI x) g_count g_height g_open (nI t) g_depth b_sizes b_inputs b_kinds b_args b_rowAt b_floor b_lengths va b_begins b_many b_rows b_element b_outs b_out) (fun x va => ∃ c : List Int32, c.length = m ∧ c.Perm l ∧ (∀ y, y < m → va (8 * t + y) = c.getD y 0) ∧ qy_Bub m k x c ∧ (∀ j, (j < 8 * t ∨ 8 * t + 8 ≤ j) → va j = b_values j)) (m - 1) b_values ⟨c0, hc1, hc2, hc3, ?_, fun j _ => rfl⟩ ?_ ?_
  · intro j hj hj2 i hi
    exact hc4 j hj (by omega) i hi
  · intro n va ⟨c, a1, a2, a3, a4, a5⟩
    try dsimp only
    try simp (disch := omega) only [qa_m8, qa_m64, qa_m512, qa_a384, qa_a64, nI_add, nI_1, nI_clamp, vp_in_nI, true_and, forall_eq, wY_sortRow_9]
    refine br_t (qa_le (by omega)) (H va c a1 a2 a3 (fun j hj hj2 i hi => a4 j hj ?_ i hi) a5)
    omega
  · intro n x va hx ⟨c, a1, a2, a3, a4, a5⟩ Kc
    try dsimp only
    try simp (disch := omega) only [qa_m8, qa_m64, qa_m512, qa_a384, qa_a64, nI_add, nI_1, nI_clamp, vp_in_nI, true_and, forall_eq, wY_sortRow_9]
    refine br_f (qa_nle (by omega)) ?_
    have ex := a3 x (by omega)
    have ex1 := a3 (x + 1) (by omega)
    rw [show 8 * t + x + 1 = 8 * t + (x + 1) from rfl, ex, ex1]
    refine br_c (fun g => ?_) (fun g => ?_)
    · refine Kc va ⟨c, a1, a2, a3, fun j hj hj2 i hi => ?_, a5⟩
      by_cases zo : m ≤ j + k ∨ j = x ∨ (m = j + 1 + k ∧ j ≤ x)
      · exact a4 j hj zo i hi
      · have zj : j = x + 1 := by omega
        subst zj
        by_cases zi : i = x
        · rw [zi]; exact g
        · exact Int32.le_trans (a4 x (by omega) (Or.inr (Or.inl rfl)) i (by omega)) g
    · have hnk : ¬ m ≤ (x + 1) + k := fun z => g (a4 (x + 1) (by omega) (Or.inl z) x (by omega))
      have gl : c.getD (x + 1) 0 ≤ c.getD x 0 := Int32.le_of_lt (Int32.not_le.mp g)
      refine qy_exchange t x (x + 1) ht (by omega) (by omega) ?_
      try dsimp only
      try simp (disch := omega) only [qa_m8, qa_m64, qa_m512, qa_a384, qa_a64, nI_add, nI_1, nI_clamp, vp_in_nI, true_and, forall_eq]
      have xl : x < c.length := by omega
      have xl1 : x + 1 < c.length := by omega
      refine Kc _ ⟨(c.set x (c.getD (x + 1) 0)).set (x + 1) (c.getD x 0), by rw [List.length_set, List.length_set]; exact a1, (qp_swap xl xl1).trans a2, fun y hy => ?_, fun j hj hj2 i hi => ?_, fun j hj => ?_⟩
      · rw [qp_swap_get xl xl1]
        by_cases z1 : y = x + 1
        · rw [if_pos z1, z1, pk_us, ex]
        · rw [if_neg z1, pk_un (by omega)]
          by_cases z2 : y = x
          · rw [if_pos z2, z2, pk_us, ex1]
          · rw [if_neg z2, pk_un (by omega)]; exact a3 y hy
      · rw [qp_swap_get xl xl1, qp_swap_get xl xl1]
        by_cases zj : j = x + 1
        · rw [if_pos zj, if_neg (by omega)]
          by_cases zi : i = x
          · rw [if_pos zi]; exact gl
          · rw [if_neg zi]; exact a4 x (by omega) (Or.inr (Or.inl rfl)) i (by omega)
        · rw [if_neg zj]
          by_cases zjk : m ≤ j + k
          · have jx : ¬ j = x := by omega
            rw [if_neg jx]
            by_cases zi : i = x + 1
            · rw [if_pos zi]; exact a4 j hj (Or.inl zjk) x (by omega)
            · rw [if_neg zi]
              by_cases zi2 : i = x
              · rw [if_pos zi2]; exact a4 j hj (Or.inl zjk) (x + 1) (by omega)
              · rw [if_neg zi2]; exact a4 j hj (Or.inl zjk) i hi
          · exact absurd hj2 (by omega)
      · rw [pk_un (by omega), pk_un (by omega)]; exact a5 j hj
theorem qy_sortRow {post : SY → Prop} (t m : Nat) (l : List Int32) (ht : t < 7) (hm : m ≤ 8) (hl : l.length = m) (h : ∀ k, k < m → b_values (8 * t + k) = l.getD k 0)
    (H : ∀ va : Nat → Int32, (∀ k, k < m → va (8 * t + k) = (qp_srt l).getD k 0) → (∀ j, (j < 8 * t ∨ 8 * t + 8 ≤ j) → va j = b_values j) → post (g_count, g_height, g_open, nI t, g_depth, b_sizes, b_inputs, b_kinds, b_args, b_rowAt, b_floor, b_lengths, va, b_begins, b_many, b_rows, b_element, b_outs, b_out)) :
    wpY_sortRow post (g_count, g_height, g_open, nI t, g_depth, b_sizes, b_inputs, b_kinds, b_args, b_rowAt, b_floor, b_lengths, b_values, b_begins, b_many, b_rows, b_element, b_outs, b_out) (nI m) := by
  unfold wpY_sortRow
  try dsimp only
  refine loop_0 (fun n x (va : Nat → Int32) => wY_sortRow_2 post (nI m) n (nI x) g_count g_height g_open (nI t) g_depth b_sizes b_inputs b_kinds b_args b_rowAt b_floor b_lengths va b_begins b_many b_rows b_element b_outs b_out) (fun x va => ∃ c : List Int32, c.length = m ∧ c.Perm l ∧ (∀ y, y < m → va (8 * t + y) = c.getD y 0) ∧ (∀ j, j < m → m ≤ j + x → ∀ i, i < j → c.getD i 0 ≤ c.getD j 0) ∧ (∀ j, (j < 8 * t ∨ 8 * t + 8 ≤ j) → va j = b_values j)) m b_values ⟨l, hl, List.Perm.refl _, h, fun j hj hj2 => absurd hj2 (by omega), fun j _ => rfl⟩ ?_ ?_
  · intro n va ⟨c, a1, a2, a3, a4, a5⟩
    refine br_t (qa_le (Nat.le_refl m)) (H va (fun k hk => ?_) a5)
    rw [a3 k hk, ← qp_srt_eq a2 ?_]
    rw [List.pairwise_iff_getElem]
    intro i j hi hj hij
    have := a4 j (by omega) (by omega) i hij
    rw [qp_getD hi, qp_getD hj] at this
    exact this
  · intro n x va hx ⟨c, a1, a2, a3, a4, a5⟩ Kc
    refine br_f (qa_nle hx) ?_
    refine qy_sort9 t m x l c ht hm (by omega) hx a1 a2 a3 a4 (fun va' c' d1 d2 d3 d4 d5 => Kc va' ⟨c', d1, d2, d3, d4, fun j hj => ?_⟩)
    rw [d5 j hj]; exact a5 j hj
end
end
section
/-! Y: a token that is no block's, carried out -/
theorem qa_p8 (n : Nat) : nI n + 8 = nI (n + 8) := nI_add n 8
theorem qa_p16 (n : Nat) : nI n + 16 = nI (n + 16) := nI_add n 16
def qy_B (b j : Nat) (row : List Int32) (x : Int32) (m : Nat) (o : List Int32) (be ma ro el os ou : Nat → Int32) : Prop :=
  be b = nI j ∧ ma b = nI row.length ∧ (∀ k, k < row.length → ro (8 * b + k) = row.getD k 0) ∧ el b = nI m ∧ m < row.length ∧ x = row.getD m 0 ∧ os b = nI o.length ∧ o.length ≤ m ∧ (∀ k, k < o.length → ou (8 * b + k) = o.getD k 0)
def qy_R (K : Nat → Nat) (A : Nat → Int32) (inp : Nat → List Int32) (i : Nat) (env : qE) (mb : Nat → Nat) (ob : Nat → List Int32) (le va be ma ro el os ou : Nat → Int32) : Prop :=
  (∀ e, e < qh K i → qy_Rep le va e (qn K A inp i e env)) ∧ (∀ b, b < qo K i → qy_B b (qb K i b) (qr K A inp i b env) (env b) (mb b) (ob b) be ma ro el os ou)
section
variable {g_count g_height g_open g_top g_depth : Int32} {b_sizes b_inputs b_kinds b_args b_rowAt b_floor b_lengths b_values b_begins b_many b_rows b_element b_outs b_out : Nat → Int32}
variable {K : Nat → Nat} {A : Nat → Int32} {inp : Nat → List Int32} {i : Nat} {env : qE} {mb : Nat → Nat} {ob : Nat → List Int32}
theorem qy_push {le va be ma ro el os ou le' va' : Nat → Int32} (V : ∀ j, j ≤ i → qv K A j) (hb : ¬ qp_blk (K i)) (h21 : K i ≠ 21) (R : qy_R K A inp i env mb ob le va be ma ro el os ou) (f : Nat) (hf : f = qh K i - qp_tk (K i))
    (h1 : qy_Rep le' va' f (qval (K i) (A i) inp (qn K A inp i) f env)) (h2 : ∀ e, e < f → le' e = le e) (h3 : ∀ j, j < 8 * f → va' j = va j) (h8 : ∀ e, e < qh K i → (qn K A inp i e env).length ≤ 8) :
    qy_R K A inp (i + 1) env mb ob le' va' be ma ro el os ou := by
  obtain ⟨r1, r2⟩ := R
  unfold qy_R
  rw [qo_s hb h21, qb_n hb, qr_n hb, qh_s hb h21, qn_s hb h21]
  refine ⟨fun e he => ?_, r2⟩
  try dsimp only
  rw [← hf]
  by_cases z : e = f
  · rw [if_pos z, z]; exact h1
  · rw [if_neg z]
    obtain ⟨a1, a2⟩ := r1 e (by omega)
    refine ⟨by rw [h2 e (by omega)]; exact a1, fun k hk => ?_⟩
    have := h8 e (by omega)
    rw [h3 _ (by omega)]
    exact a2 k hk
theorem qy_asNumber {post : Int32 → Prop} (k f : Nat) (a b c : List Int32) (hk : 3 ≤ k ∧ k < 14) (hf : f + qp_tk k ≤ 6) (r0 : qy_Rep b_lengths b_values f a) (m0 : a.length ≤ 8)
    (n0 : k < 10 → a.length = 1) (r1 : 2 ≤ qp_tk k → qy_Rep b_lengths b_values (f + 1) b ∧ b.length = 1) (r2 : 3 ≤ qp_tk k → qy_Rep b_lengths b_values (f + 2) c ∧ c.length = 1)
    (H : post ((qp_op k a b c).getD 0 0)) : wpY_asNumber post (g_count, g_height, g_open, nI f, g_depth, b_sizes, b_inputs, b_kinds, b_args, b_rowAt, b_floor, b_lengths, b_values, b_begins, b_many, b_rows, b_element, b_outs, b_out) (nI k) := by
  have ht := qp_tk_0 (k := k) (by omega)
  obtain ⟨p1, p2⟩ := r0
  have v1 : 2 ≤ qp_tk k → b_values (8 * f + 8) = b.getD 0 0 := by
    intro z
    obtain ⟨⟨q1, q2⟩, q3⟩ := r1 z
    exact q2 0 (by omega)
  have v2 : 3 ≤ qp_tk k → b_values (8 * f + 16) = c.getD 0 0 := by
    intro z
    obtain ⟨⟨q1, q2⟩, q3⟩ := r2 z
    exact q2 0 (by omega)
  unfold wpY_asNumber
  try simp (disch := omega) only [qa_m8, qa_m64, qa_m512, qa_a384, qa_a64, nI_add, nI_1, nI_clamp, vp_in_nI, true_and, forall_eq, p1, qa_p8, qa_p16]
  refine pk_le 9 k (fun h9 => ?_) (fun h9 => ?_)
  · refine pk_eq k 9 (fun e9 => ?_) (fun n9 => ?_)
    · subst e9
      have a0 : b_values (8 * f) = a.getD 0 0 := p2 0 (by have := n0 (by omega); omega)
      have hf' : f + 3 ≤ 6 := hf
      rw [a0]
      have eo : (qp_op 9 a b c).getD 0 0 = if a.getD 0 0 = 0 then c.getD 0 0 else b.getD 0 0 := rfl
      refine br_c (fun g => ?_) (fun g => ?_)
      · refine ⟨vp_in_nI (by omega) (by omega), ?_⟩
        rw [v2 (by decide)]
        rw [eo, if_pos g] at H
        exact H
      · rw [v1 (by decide)]
        rw [eo, if_neg g] at H
        exact H
    refine pk_eq k 10 (fun e => ?_) (fun n10 => ?_)
    · subst e; exact H
    refine pk_eq k 11 (fun e => ?_) (fun n11 => ?_)
    · subst e
      exact qy_sumUpTo f a.length _ (fun i => a.getD i 0) (by omega) m0 (qy_m1 _ m0) p2 H
    refine pk_eq k 12 (fun e => ?_) (fun n12 => ?_)
    · subst e
      exact qy_most f a.length (fun i => a.getD i 0) (by omega) m0 p2 H
    have e13 : k = 13 := by omega
    subst e13
    have hf' : f + 2 ≤ 6 := hf
    rw [v1 (by decide)]
    have e1 : (qp_op 13 a b c).getD 0 0 = if b.getD 0 0 < 0 then 0 else if nI a.length ≤ b.getD 0 0 then 0 else a.getD (b.getD 0 0).toNatClampNeg 0 := rfl
    rw [e1] at H
    refine br_c (fun g => ?_) (fun g => ?_)
    · rw [if_pos g] at H; exact H
    · rw [if_neg g] at H
      refine br_c (fun g2 => ?_) (fun g2 => ?_)
      · rw [if_pos g2] at H; exact H
      · rw [if_neg g2] at H
        obtain ⟨j, hj, ej⟩ := nI_of g
        rw [ej] at g2 H
        rw [nI_leI (by omega) hj] at g2
        rw [nI_clamp hj] at H
        rw [ej]
        try simp (disch := omega) only [qa_m8, qa_m64, qa_m512, qa_a384, qa_a64, nI_add, nI_1, nI_clamp, vp_in_nI, true_and, forall_eq, p2 j (by omega)]
        exact H
  · have ht2 : qp_tk k = 2 := by unfold qp_tk; (repeat' split) <;> omega
    have a0 : b_values (8 * f) = a.getD 0 0 := p2 0 (by have := n0 (by omega); omega)
    rw [v1 (by omega), a0]
    refine qy_number k _ _ (by omega) h9 ?_
    rw [qp_op_lt h9] at H
    exact H
theorem qy_simple34 {post : SY → Prop} (t a : Nat) (ht : t < 7) (ha : a < 3)
    (H : ∀ va : Nat → Int32, (∀ k, k < 8 → va (8 * t + k) = b_inputs (8 * a + k)) → (∀ j, (j < 8 * t ∨ 8 * t + 8 ≤ j) → va j = b_values j) → post (g_count, g_height, g_open, nI (t + 1), g_depth, b_sizes, b_inputs, b_kinds, b_args, b_rowAt, b_floor, b_lengths, va, b_begins, b_many, b_rows, b_element, b_outs, b_out)) :
    ∃ n, wY_simple_34 post (nI a) g_count g_height g_open (nI t) g_depth n 0 b_sizes b_inputs b_kinds b_args b_rowAt b_floor b_lengths b_values b_begins b_many b_rows b_element b_outs b_out := by
  refine loop_0 (fun n x (va : Nat → Int32) => wY_simple_34 post (nI a) g_count g_height g_open (nI t) g_depth n (nI x) b_sizes b_inputs b_kinds b_args b_rowAt b_floor b_lengths va b_begins b_many b_rows b_element b_outs b_out) (fun x va => (∀ k, k < x → va (8 * t + k) = b_inputs (8 * a + k)) ∧ (∀ j, (j < 8 * t ∨ 8 * t + 8 ≤ j) → va j = b_values j)) 8 b_values ⟨fun k h => absurd h (Nat.not_lt_zero k), fun j _ => rfl⟩ ?_ ?_
  · intro n va ⟨h1, h2⟩
    exact br_t (qa_le (a := 8) (b := 8) (by omega)) (nm_r (nI_1 t) (H va h1 h2))
  · intro n x va hx ⟨h1, h2⟩ Kc
    refine br_f (qa_nle (b := 8) hx) ?_
    try simp (disch := omega) only [qa_m8, qa_m64, qa_m512, qa_a384, qa_a64, nI_add, nI_1, nI_clamp, vp_in_nI, true_and, forall_eq]
    refine Kc _ ⟨fun k hk => ?_, fun j hj => ?_⟩
    · by_cases z : k = x
      · rw [z, pk_us]
      · rw [pk_un (by omega)]; exact h1 k (by omega)
    · rw [pk_un (by omega)]; exact h2 j hj
theorem qy_simple {post : SY → Prop} (V : ∀ j, j ≤ i → qv K A j) (hi : qx_Inp inp b_sizes b_inputs) (R : qy_R K A inp i env mb ob b_lengths b_values b_begins b_many b_rows b_element b_outs b_out) (hk : K i < 3)
    (H : ∀ le va : Nat → Int32, qy_R K A inp (i + 1) env mb ob le va b_begins b_many b_rows b_element b_outs b_out → post (g_count, g_height, g_open, nI (qh K (i + 1)), nI (qo K (i + 1)), b_sizes, b_inputs, b_kinds, b_args, b_rowAt, b_floor, le, va, b_begins, b_many, b_rows, b_element, b_outs, b_out)) :
    wpY_simple post (g_count, g_height, g_open, nI (qh K i), nI (qo K i), b_sizes, b_inputs, b_kinds, b_args, b_rowAt, b_floor, b_lengths, b_values, b_begins, b_many, b_rows, b_element, b_outs, b_out) (nI (K i)) (A i) := by
  have hb : ¬ qp_blk (K i) := by intro z; rcases z with z | z <;> omega
  have h21 : K i ≠ 21 := by omega
  have I2 := q_i2 (K := K) (A := A) (inp := inp) (fun b hb => (hi b hb).1) i (fun j hj => V j (by omega))
  have I1 := q_i1 (K := K) (A := A) i (fun j hj => V j (by omega))
  obtain ⟨v1, v2, v3, v4, v5, v6, v7⟩ := V i (Nat.le_refl i)
  have h6 := v6 hk
  have ht := qp_tk_z hk
  have hf : qh K i = qh K i - qp_tk (K i) := by omega
  have hh : qh K (i + 1) = qh K i + 1 := by rw [qh_s hb h21, ht]; omega
  have ho : qo K (i + 1) = qo K i := qo_s hb h21
  have h8 : ∀ e, e < qh K i → (qn K A inp i e env).length ≤ 8 := fun e he => (I2.1 e env he).2
  rw [hh, ho] at H
  have R' := R
  obtain ⟨r1, r2⟩ := R'
  have num : ∀ v : Int32, qval (K i) (A i) inp (qn K A inp i) (qh K i) env = [v] → post (g_count, g_height, g_open, nI (qh K i + 1), nI (qo K i), b_sizes, b_inputs, b_kinds, b_args, b_rowAt, b_floor, upd b_lengths (qh K i) 1, upd b_values (8 * qh K i) v, b_begins, b_many, b_rows, b_element, b_outs, b_out) := by
    intro v hv
    refine H _ _ (qy_push V hb h21 R (qh K i) hf ?_ (fun e he => pk_un (by omega)) (fun j hj => pk_un (by omega)) h8)
    rw [hv]
    refine ⟨pk_us, fun k hk1 => ?_⟩
    have : k = 0 := by have : k < 1 := hk1; omega
    subst this
    exact pk_us
  unfold wpY_simple
  try dsimp only
  refine pk_eq (K i) 0 (fun k0 => ?_) (fun k0 => ?_)
  · refine qy_pushNumber (qh K i) (A i) (by omega) (num _ ?_)
    unfold qval
    rw [if_pos k0]
  refine pk_eq (K i) 1 (fun k1 => ?_) (fun k1 => ?_)
  · obtain ⟨b, hb3, eb⟩ := v2 k1
    obtain ⟨i1, i2, i3⟩ := hi b hb3
    rw [eb]
    try simp (disch := omega) only [qa_m8, qa_m64, qa_m512, qa_a384, qa_a64, nI_add, nI_1, nI_clamp, vp_in_nI, true_and, forall_eq, i2]
    refine qy_simple34 (qh K i) b (by omega) hb3 (fun va g1 g2 => ?_)
    refine H _ va (qy_push V hb h21 R (qh K i) hf ?_ (fun e he => pk_un (by omega)) (fun j hj => g2 j (by omega)) h8)
    unfold qval
    rw [if_neg k0, if_pos k1, eb, nI_clamp (by omega)]
    refine ⟨pk_us, fun k hk1 => ?_⟩
    try dsimp only
    rw [g1 k (by omega)]
    exact i3 k hk1
  have k2 : K i = 2 := by omega
  obtain ⟨b, hbo, eb⟩ := v3 k2
  have ho2 := I1.2.1
  obtain ⟨c1, c2, c3, c4, c5, c6, c7, c8, c9⟩ := r2 b hbo
  have c10 := I2.2 b env hbo
  rw [eb]
  try simp (disch := omega) only [qa_m8, qa_m64, qa_m512, qa_a384, qa_a64, nI_add, nI_1, nI_clamp, vp_in_nI, true_and, forall_eq, c4, c3 _ c5]
  refine qy_pushNumber (qh K i) _ (by omega) (num _ ?_)
  unfold qval
  rw [if_neg k0, if_neg k1, if_pos k2, eb, nI_clamp (by omega), c6]
theorem qy_carryOut {post : SY → Prop} (V : ∀ j, j ≤ i → qv K A j) (hi : qx_Inp inp b_sizes b_inputs) (R : qy_R K A inp i env mb ob b_lengths b_values b_begins b_many b_rows b_element b_outs b_out) (hb : ¬ qp_blk (K i)) (h21 : K i ≠ 21)
    (H : ∀ le va : Nat → Int32, qy_R K A inp (i + 1) env mb ob le va b_begins b_many b_rows b_element b_outs b_out → post (g_count, g_height, g_open, nI (qh K (i + 1)), nI (qo K (i + 1)), b_sizes, b_inputs, b_kinds, b_args, b_rowAt, b_floor, le, va, b_begins, b_many, b_rows, b_element, b_outs, b_out)) :
    wpY_carryOut post (g_count, g_height, g_open, nI (qh K i), nI (qo K i), b_sizes, b_inputs, b_kinds, b_args, b_rowAt, b_floor, b_lengths, b_values, b_begins, b_many, b_rows, b_element, b_outs, b_out) (nI (K i)) (A i) := by
  have I2 := q_i2 (K := K) (A := A) (inp := inp) (fun b hb => (hi b hb).1) i (fun j hj => V j (by omega))
  have I1 := q_i1 (K := K) (A := A) i (fun j hj => V j (by omega))
  obtain ⟨v1, v2, v3, v4, v5, v6, v7⟩ := V i (Nat.le_refl i)
  obtain ⟨w1, w2⟩ := v5 h21
  clear v2 v3
  have hnb : K i ≠ 19 ∧ K i ≠ 20 := ⟨fun z => hb (Or.inl z), fun z => hb (Or.inr z)⟩
  have h6 := I1.1
  have h8 : ∀ e, e < qh K i → (qn K A inp i e env).length ≤ 8 := fun e he => (I2.1 e env he).2
  unfold wpY_carryOut
  try dsimp only
  refine pk_le 3 (K i) (fun h3 => ?_) (fun h3 => ?_)
  · have ht := qp_tk_0 h3
    have ht3 := qp_tk_le (K i)
    obtain ⟨f, hf⟩ : ∃ f, qh K i = f + qp_tk (K i) := ⟨qh K i - qp_tk (K i), by omega⟩
    have hh : qh K (i + 1) = f + 1 := by rw [qh_s hb h21]; omega
    have ho : qo K (i + 1) = qo K i := qo_s hb h21
    rw [hh, ho] at H
    have R' := R
    obtain ⟨r1, r2⟩ := R'
    have eq : qval (K i) (A i) inp (qn K A inp i) f = fun env => qp_op (K i) (qn K A inp i f env) (qn K A inp i (f + 1) env) (qn K A inp i (f + 2) env) := by
      unfold qval
      rw [if_neg (by omega), if_neg (by omega), if_neg (by omega)]
    have w2' : ∀ j, j < qp_tk (K i) → qw K i (f + j) = qp_wr (K i) j := by
      intro j hj
      have := w2 j hj
      rw [show qh K i - qp_tk (K i) + j = f + j from by omega] at this
      exact this
    have nn : ∀ j, j < qp_tk (K i) → qp_wr (K i) j = false → (qn K A inp i (f + j) env).length = 1 := fun j hj hw => (I2.1 (f + j) env (by omega)).1 (by rw [w2' j hj]; exact hw)
    have a8 := h8 f (by omega)
    have hr0 := r1 f (by omega)
    obtain ⟨p1, p2⟩ := hr0
    have fin : ∀ le va : Nat → Int32, qy_Rep le va f (qp_op (K i) (qn K A inp i f env) (qn K A inp i (f + 1) env) (qn K A inp i (f + 2) env)) → (∀ e, e < f → le e = b_lengths e) → (∀ j, j < 8 * f → va j = b_values j) → post (g_count, g_height, g_open, nI (f + 1), nI (qo K i), b_sizes, b_inputs, b_kinds, b_args, b_rowAt, b_floor, le, va, b_begins, b_many, b_rows, b_element, b_outs, b_out) := by
      intro le va g1 g2 g3
      refine H le va (qy_push V hb h21 R f (by omega) ?_ g2 g3 h8)
      rw [eq]; exact g1
    refine qy_takes (K i) (by omega) ?_
    rw [hf, pk_sub (by omega), Nat.add_sub_cancel]
    try simp (disch := omega) only [qa_m8, qa_m64, qa_m512, qa_a384, qa_a64, nI_add, nI_1, nI_clamp, vp_in_nI, true_and, forall_eq, p1]
    refine pk_le 14 (K i) (fun h14 => ?_) (fun h14 => ?_)
    · refine pk_eq (K i) 14 (fun e14 => ?_) (fun n14 => ?_)
      · have l1 := nn 0 (by omega) (by rw [e14]; rfl)
        have a0 : b_values (8 * f) = (qn K A inp i f env).getD 0 0 := p2 0 (by have : (qn K A inp i f env).length = 1 := l1; omega)
        rw [a0]
        refine qy_upTo f _ (by omega) (fun va g1 g2 => ?_)
        refine fin _ va ?_ (fun e he => pk_un (by omega)) (fun j hj => g2 j (by omega))
        have e1 : qp_op (K i) (qn K A inp i f env) (qn K A inp i (f + 1) env) (qn K A inp i (f + 2) env) = qp_ql (qp_cl ((qn K A inp i f env).getD 0 0)) nI := by rw [e14]; rfl
        rw [e1]
        refine ⟨by rw [qp_ql_len]; exact pk_us, fun k hk => ?_⟩
        rw [qp_ql_len] at hk
        have := qp_cl_le ((qn K A inp i f env).getD 0 0)
        rw [qp_ql_get hk]
        exact g1 k (by omega)
      refine pk_eq (K i) 15 (fun e15 => ?_) (fun n15 => ?_)
      · have t2 : qp_tk (K i) = 2 := by rw [e15]; rfl
        obtain ⟨q1, q2⟩ := r1 (f + 1) (by omega)
        have b8 := h8 (f + 1) (by omega)
        refine qy_join f _ _ _ (by omega) p1 q1 a8 b8 rfl (fun va g1 g2 => ?_)
        refine fin _ va ?_ (fun e he => pk_un (by omega)) (fun j hj => g2 j (by omega))
        have e1 : qp_op (K i) (qn K A inp i f env) (qn K A inp i (f + 1) env) (qn K A inp i (f + 2) env) = qp_ql (if (qn K A inp i f env).length + (qn K A inp i (f + 1) env).length ≤ 8 then (qn K A inp i f env).length + (qn K A inp i (f + 1) env).length else 8) (fun x => if x < (qn K A inp i f env).length then (qn K A inp i f env).getD x 0 else (qn K A inp i (f + 1) env).getD (x - (qn K A inp i f env).length) 0) := by rw [e15]; rfl
        rw [e1]
        refine ⟨by rw [qp_ql_len]; exact pk_us, fun k hk => ?_⟩
        rw [qp_ql_len] at hk
        rw [qp_ql_get hk]
        try dsimp only
        rw [g1 k hk]
        by_cases z : k < (qn K A inp i f env).length
        · rw [if_pos z, if_pos z]; exact p2 k z
        · rw [if_neg z, if_neg z]
          refine q2 _ ?_
          split at hk <;> omega
      have hlen : (qp_op (K i) (qn K A inp i f env) (qn K A inp i (f + 1) env) (qn K A inp i (f + 2) env)).length = (qn K A inp i f env).length := by
        rw [qp_op_hi (by omega)]
        split
        · rw [qp_ql_len]
        · split
          · rw [qp_ql_len]
          · rw [qp_srt_len]
      have fin2 : ∀ va : Nat → Int32, (∀ k, k < (qn K A inp i f env).length → va (8 * f + k) = (qp_op (K i) (qn K A inp i f env) (qn K A inp i (f + 1) env) (qn K A inp i (f + 2) env)).getD k 0) → (∀ j, (j < 8 * f ∨ 8 * f + 8 ≤ j) → va j = b_values j) → post (g_count, g_height, g_open, nI (f + 1), nI (qo K i), b_sizes, b_inputs, b_kinds, b_args, b_rowAt, b_floor, b_lengths, va, b_begins, b_many, b_rows, b_element, b_outs, b_out) := by
        intro va g1 g2
        refine fin _ va ⟨by rw [hlen]; exact p1, fun k hk => ?_⟩ (fun e _ => rfl) (fun j hj => g2 j (by omega))
        exact g1 k (by omega)
      refine pk_eq (K i) 16 (fun e16 => ?_) (fun n16 => ?_)
      · refine qy_turn f _ _ (by omega) a8 rfl p2 (fun va g1 g2 => ?_)
        try dsimp only
        unfold wY_carryOut_107
        refine pk_eq (K i) 17 (fun z => absurd z (by omega)) (fun _ => ?_)
        unfold wY_carryOut_118
        refine pk_eq (K i) 18 (fun z => absurd z (by omega)) (fun _ => ?_)
        try simp (disch := omega) only [qa_m8, qa_m64, qa_m512, qa_a384, qa_a64, nI_add, nI_1, nI_clamp, vp_in_nI, true_and, forall_eq]
        refine fin2 va (fun k hk => ?_) g2
        rw [g1 k hk, qp_op_hi (by omega), if_pos e16, qp_ql_get hk]
      unfold wY_carryOut_107
      refine pk_eq (K i) 17 (fun e17 => ?_) (fun n17 => ?_)
      · refine qy_scan f _ _ (by omega) a8 rfl p2 (fun va g1 g2 => ?_)
        try dsimp only
        unfold wY_carryOut_118
        refine pk_eq (K i) 18 (fun z => absurd z (by omega)) (fun _ => ?_)
        try simp (disch := omega) only [qa_m8, qa_m64, qa_m512, qa_a384, qa_a64, nI_add, nI_1, nI_clamp, vp_in_nI, true_and, forall_eq]
        refine fin2 va (fun k hk => ?_) g2
        rw [g1 k hk, qp_op_hi (by omega), if_neg (by omega), if_pos e17, qp_ql_get hk]
      unfold wY_carryOut_118
      refine pk_eq (K i) 18 (fun e18 => ?_) (fun n18 => absurd v1 (by omega))
      refine qy_sortRow f _ _ (by omega) a8 rfl p2 (fun va g1 g2 => ?_)
      try dsimp only
      try simp (disch := omega) only [qa_m8, qa_m64, qa_m512, qa_a384, qa_a64, nI_add, nI_1, nI_clamp, vp_in_nI, true_and, forall_eq]
      refine fin2 va (fun k hk => ?_) g2
      rw [g1 k hk, qp_op_hi (by omega), if_neg (by omega), if_neg (by omega)]
    · refine qy_asNumber (K i) f (qn K A inp i f env) (qn K A inp i (f + 1) env) (qn K A inp i (f + 2) env) ⟨h3, h14⟩ (by omega) ⟨p1, p2⟩ a8 ?_ ?_ ?_ ?_
      · intro z
        exact nn 0 (by omega) (qp_wrN (Or.inl ⟨h3, z⟩))
      · intro z
        refine ⟨r1 (f + 1) (by omega), nn 1 (by omega) ?_⟩
        by_cases z13 : K i = 13
        · rw [z13]; rfl
        · have : K i < 10 := by
            unfold qp_tk at z
            split at z
            · omega
            · split at z
              · omega
              · split at z <;> omega
          exact qp_wrN (Or.inl ⟨h3, this⟩)
      · intro z
        refine ⟨r1 (f + 2) (by omega), nn 2 (by omega) ?_⟩
        have : K i < 10 := by
          unfold qp_tk at z
          split at z
          · omega
          · split at z
            · omega
            · split at z <;> omega
        exact qp_wrN (Or.inl ⟨h3, this⟩)
      · refine qy_pushNumber f _ (by omega) ?_
        try dsimp only
        refine fin _ _ ?_ (fun e he => pk_un (by omega)) (fun j hj => pk_un (by omega))
        have l1 := qp_op_num h14 (qn K A inp i f env) (qn K A inp i (f + 1) env) (qn K A inp i (f + 2) env)
        refine ⟨by rw [l1]; exact pk_us, fun k hk => ?_⟩
        have : k = 0 := by omega
        subst this
        exact pk_us
  · exact qy_simple V hi R h3 H
end
end
section
/-! Y: begin and end of a block -/
section
variable {g_count g_height g_open g_top g_depth : Int32} {b_sizes b_inputs b_kinds b_args b_rowAt b_floor b_lengths b_values b_begins b_many b_rows b_element b_outs b_out : Nat → Int32}
variable {K : Nat → Nat} {A : Nat → Int32} {inp : Nat → List Int32}
theorem qy_endOf {post : Int32 → Prop} (n j e b : Nat) (hn : n ≤ 40) (he : e < n) (hje : j < e) (hp : ∀ k, k < n → b_kinds k = nI (K k)) (hv : ∀ k, k < n → K k < 22) (h1 : qo K (j + 1) = b + 1) (ho : ∀ k, j < k → k ≤ e → b < qo K k ∧ qo K k ≤ 2) (hend : K e = 21 ∧ qo K e = b + 1) (H : post (nI e)) :
    wpY_endOf post (nI n, g_height, g_open, g_top, g_depth, b_sizes, b_inputs, b_kinds, b_args, b_rowAt, b_floor, b_lengths, b_values, b_begins, b_many, b_rows, b_element, b_outs, b_out) (nI j) := by
  have key : ∀ d k, k + d = e → j < k → wY_endOf_6 post (nI n) g_height g_open g_top g_depth b_sizes b_inputs b_kinds b_args b_rowAt b_floor b_lengths b_values b_begins b_many b_rows b_element b_outs b_out (d + 1) (nI (qo K k - (b + 1))) (nI k) := by
    intro d
    induction d with
    | zero =>
      intro k hk hjk
      have : k = e := by omega
      subst this
      refine br_f (qa_nle (by omega)) ?_
      try simp (disch := omega) only [qa_m8, qa_m64, qa_m512, qa_a384, qa_a64, nI_add, nI_1, nI_clamp, vp_in_nI, true_and, forall_eq, hp k he]
      refine br_t (by rw [hend.1]; rfl) (br_t ?_ H)
      rw [hend.2, Nat.sub_self]
      rfl
    | succ d ih =>
      intro k hk hjk
      have hkn : k < n := by omega
      have hv' := hv k hkn
      obtain ⟨o1, o2⟩ := ho k hjk (by omega)
      obtain ⟨o3, o4⟩ := ho (k + 1) (by omega) (by omega)
      have nx := ih (k + 1) (by omega) (by omega)
      refine br_f (qa_nle (by omega)) ?_
      try simp (disch := omega) only [qa_m8, qa_m64, qa_m512, qa_a384, qa_a64, nI_add, nI_1, nI_clamp, vp_in_nI, true_and, forall_eq, hp k hkn]
      have g31 : wY_endOf_31 post (wY_endOf_6 post (nI n) g_height g_open g_top g_depth b_sizes b_inputs b_kinds b_args b_rowAt b_floor b_lengths b_values b_begins b_many b_rows b_element b_outs b_out (d + 1)) (nI (qo K k - (b + 1))) (nI k) (nI n) g_height g_open g_top g_depth b_sizes b_inputs b_kinds b_args b_rowAt b_floor b_lengths b_values b_begins b_many b_rows b_element b_outs b_out := by
        unfold wY_endOf_31
        try simp (disch := omega) only [qa_m8, qa_m64, qa_m512, qa_a384, qa_a64, nI_add, nI_1, nI_clamp, vp_in_nI, true_and, forall_eq, hp k hkn]
        refine pk_eq (K k) 21 (fun z => ?_) (fun n21 => ?_)
        · rw [qo_e z] at nx o3
          rw [qa_s1 (by omega), show qo K k - (b + 1) - 1 = qo K k - 1 - (b + 1) from by omega]
          exact nx
        refine pk_eq (K k) 19 (fun z => ?_) (fun n19 => ?_)
        · rw [qo_b (Or.inl z)] at nx
          rw [show qo K k - (b + 1) + 1 = qo K k + 1 - (b + 1) from by omega]
          exact nx
        refine pk_eq (K k) 20 (fun z => ?_) (fun n20 => ?_)
        · rw [qo_b (Or.inr z)] at nx
          rw [show qo K k - (b + 1) + 1 = qo K k + 1 - (b + 1) from by omega]
          exact nx
        · rw [qo_s (fun z => by rcases z with z | z <;> omega) n21] at nx
          exact nx
      refine pk_eq (K k) 21 (fun z => ?_) (fun n21 => g31)
      refine br_f (nI_ne0 ?_ (by omega)) g31
      rw [qo_e z] at o3
      omega
  unfold wpY_endOf
  try simp (disch := omega) only [qa_m8, qa_m64, qa_m512, qa_a384, qa_a64, nI_add, nI_1, nI_clamp, vp_in_nI, true_and, forall_eq]
  have := key (e - (j + 1)) (j + 1) (by omega) (by omega)
  rw [h1, Nat.sub_self] at this
  exact ⟨_, this⟩
theorem qy_begin {post : Int32 → SY → Prop} (n j e d o len : Nat) (hn : n ≤ 40) (hd : d < 6) (ho : o < 2) (hj : j < n) (hl : b_lengths d = nI len) (hlen : len ≤ 8)
    (h0 : len = 0 → wpY_endOf (fun r => post (r + 1) (nI n, g_height, g_open, nI (d + 1), nI o, b_sizes, b_inputs, b_kinds, b_args, b_rowAt, b_floor, b_lengths, b_values, b_begins, b_many, b_rows, b_element, b_outs, b_out)) (nI n, g_height, g_open, nI (d + 1), nI o, b_sizes, b_inputs, b_kinds, b_args, b_rowAt, b_floor, b_lengths, b_values, b_begins, b_many, b_rows, b_element, b_outs, b_out) (nI j))
    (H : len ≠ 0 → ∀ ro : Nat → Int32, (∀ k, k < 8 → ro (8 * o + k) = b_values (8 * d + k)) → (∀ q, (q < 8 * o ∨ 8 * o + 8 ≤ q) → ro q = b_rows q) → post (nI (j + 1)) (nI n, g_height, g_open, nI d, nI (o + 1), b_sizes, b_inputs, b_kinds, b_args, b_rowAt, b_floor, b_lengths, b_values, upd b_begins o (nI j), upd b_many o (nI len), ro, upd b_element o 0, upd b_outs o 0, b_out)) :
    wpY_begin post (nI n, g_height, g_open, nI (d + 1), nI o, b_sizes, b_inputs, b_kinds, b_args, b_rowAt, b_floor, b_lengths, b_values, b_begins, b_many, b_rows, b_element, b_outs, b_out) (nI j) := by
  unfold wpY_begin
  try simp (disch := omega) only [qa_m8, qa_m64, qa_m512, qa_a384, qa_a64, nI_add, nI_1, nI_clamp, vp_in_nI, true_and, forall_eq, qa_s1, Nat.add_sub_cancel, hl]
  by_cases z : len = 0
  · refine br_t (by rw [z]; rfl) ?_
    exact h0 z
  · refine br_f (nI_ne0 (by omega) (by omega)) ?_
    refine loop_0 (fun m x (ro : Nat → Int32) => wY_begin_90 post (nI j) (nI n) g_height g_open (nI d) (nI o) m (nI x) b_sizes b_inputs b_kinds b_args b_rowAt b_floor b_lengths b_values (upd b_begins o (nI j)) (upd b_many o (nI len)) ro (upd b_element o 0) (upd b_outs o 0) b_out) (fun x ro => (∀ k, k < x → ro (8 * o + k) = b_values (8 * d + k)) ∧ (∀ q, (q < 8 * o ∨ 8 * o + 8 ≤ q) → ro q = b_rows q)) 8 b_rows ⟨fun k h => absurd h (Nat.not_lt_zero k), fun j _ => rfl⟩ ?_ ?_
    · intro m ro ⟨h1, h2⟩
      refine br_t (qa_le (a := 8) (b := 8) (by omega)) ?_
      try simp (disch := omega) only [qa_m8, qa_m64, qa_m512, qa_a384, qa_a64, nI_add, nI_1, nI_clamp, vp_in_nI, true_and, forall_eq]
      exact H z ro h1 h2
    · intro m x ro hx ⟨h1, h2⟩ Kc
      refine br_f (qa_nle (b := 8) hx) ?_
      try simp (disch := omega) only [qa_m8, qa_m64, qa_m512, qa_a384, qa_a64, nI_add, nI_1, nI_clamp, vp_in_nI, true_and, forall_eq]
      refine Kc _ ⟨fun k hk => ?_, fun q hq => ?_⟩
      · by_cases zk : k = x
        · rw [zk, pk_us]
        · rw [pk_un (by omega)]; exact h1 k (by omega)
      · rw [pk_un (by omega)]; exact h2 q hq
theorem qy_end165 {post : Int32 → SY → Prop} (i d b : Nat) (hd : d < 6) (hb : b < 2) (hi : i < 40)
    (H : ∀ va : Nat → Int32, (∀ k, k < 8 → va (8 * d + k) = b_out (8 * b + k)) → (∀ q, (q < 8 * d ∨ 8 * d + 8 ≤ q) → va q = b_values q) → post (nI (i + 1)) (g_count, g_height, g_open, nI (d + 1), nI b, b_sizes, b_inputs, b_kinds, b_args, b_rowAt, b_floor, b_lengths, va, b_begins, b_many, b_rows, b_element, b_outs, b_out)) :
    ∃ n, wY_endBlock_165 post (nI i) (nI b) g_count g_height g_open (nI d) (nI (b + 1)) n 0 b_sizes b_inputs b_kinds b_args b_rowAt b_floor b_lengths b_values b_begins b_many b_rows b_element b_outs b_out := by
  refine loop_0 (fun m x (va : Nat → Int32) => wY_endBlock_165 post (nI i) (nI b) g_count g_height g_open (nI d) (nI (b + 1)) m (nI x) b_sizes b_inputs b_kinds b_args b_rowAt b_floor b_lengths va b_begins b_many b_rows b_element b_outs b_out) (fun x va => (∀ k, k < x → va (8 * d + k) = b_out (8 * b + k)) ∧ (∀ q, (q < 8 * d ∨ 8 * d + 8 ≤ q) → va q = b_values q)) 8 b_values ⟨fun k h => absurd h (Nat.not_lt_zero k), fun j _ => rfl⟩ ?_ ?_
  · intro m va ⟨h1, h2⟩
    refine br_t (qa_le (a := 8) (b := 8) (by omega)) ?_
    try simp (disch := omega) only [qa_m8, qa_m64, qa_m512, qa_a384, qa_a64, nI_add, nI_1, nI_clamp, vp_in_nI, true_and, forall_eq, qa_s1, Nat.add_sub_cancel]
    exact H va h1 h2
  · intro m x va hx ⟨h1, h2⟩ Kc
    refine br_f (qa_nle (b := 8) hx) ?_
    try simp (disch := omega) only [qa_m8, qa_m64, qa_m512, qa_a384, qa_a64, nI_add, nI_1, nI_clamp, vp_in_nI, true_and, forall_eq]
    refine Kc _ ⟨fun k hk => ?_, fun q hq => ?_⟩
    · by_cases zk : k = x
      · rw [zk, pk_us]
      · rw [pk_un (by omega)]; exact h1 k (by omega)
    · rw [pk_un (by omega)]; exact h2 q hq
/-- element and outs are counted on -/
theorem qy_end113 {post : Int32 → SY → Prop} (i j d b m len lo : Nat) (hd : d < 6) (hb : b < 2) (hi : i < 40) (hj : j < 40) (hm : m < len) (hlen : len ≤ 8)
    (e1 : b_begins b = nI j) (e2 : b_many b = nI len) (e3 : b_element b = nI m) (e4 : b_outs b = nI lo) (hlo : lo ≤ 8)
    (H1 : m + 1 < len → post (nI (j + 1)) (g_count, g_height, g_open, nI d, nI (b + 1), b_sizes, b_inputs, b_kinds, b_args, b_rowAt, b_floor, b_lengths, b_values, b_begins, b_many, b_rows, upd b_element b (nI (m + 1)), b_outs, b_out))
    (H2 : m + 1 = len → ∀ va : Nat → Int32, (∀ k, k < 8 → va (8 * d + k) = b_out (8 * b + k)) → (∀ q, (q < 8 * d ∨ 8 * d + 8 ≤ q) → va q = b_values q) → post (nI (i + 1)) (g_count, g_height, g_open, nI (d + 1), nI b, b_sizes, b_inputs, b_kinds, b_args, b_rowAt, b_floor, upd b_lengths d (nI lo), va, b_begins, b_many, b_rows, upd b_element b (nI (m + 1)), b_outs, b_out)) :
    wY_endBlock_113 post (nI i) (nI b) g_count g_height g_open (nI d) (nI (b + 1)) b_sizes b_inputs b_kinds b_args b_rowAt b_floor b_lengths b_values b_begins b_many b_rows b_element b_outs b_out := by
  unfold wY_endBlock_113
  try simp (disch := omega) only [qa_m8, qa_m64, qa_m512, qa_a384, qa_a64, nI_add, nI_1, nI_clamp, vp_in_nI, true_and, forall_eq, e1, e2, e3, e4, pk_us]
  refine pk_le len (m + 1) (fun z => ?_) (fun z => ?_)
  · exact qy_end165 i d b hd hb hi (H2 (by omega))
  · exact H1 z
theorem qy_endBlock {post : Int32 → SY → Prop} (i j d b m kk : Nat) (row o : List Int32) (v : Int32) (hd : d < 6) (hb : b < 2) (hi : i < 40) (hj : j < 40) (hm : m < row.length) (hlen : row.length ≤ 8) (hkk : qp_blk kk) (hkj : b_kinds j = nI kk)
    (hv : b_values (8 * d) = v) (e1 : b_begins b = nI j) (e2 : b_many b = nI row.length) (e3 : b_element b = nI m) (e4 : b_outs b = nI o.length) (hlo : o.length ≤ m) (hro : b_rows (8 * b + m) = row.getD m 0) (hou : ∀ k, k < o.length → b_out (8 * b + k) = o.getD k 0)
    (H1 : m + 1 < row.length → ∀ os ou : Nat → Int32, os b = nI (o ++ qp_g1 kk (row.getD m 0) v).length → (∀ k, k < (o ++ qp_g1 kk (row.getD m 0) v).length → ou (8 * b + k) = (o ++ qp_g1 kk (row.getD m 0) v).getD k 0) → (∀ c, c ≠ b → os c = b_outs c) → (∀ q, (q < 8 * b ∨ 8 * b + 8 ≤ q) → ou q = b_out q) →
      post (nI (j + 1)) (g_count, g_height, g_open, nI d, nI (b + 1), b_sizes, b_inputs, b_kinds, b_args, b_rowAt, b_floor, b_lengths, b_values, b_begins, b_many, b_rows, upd b_element b (nI (m + 1)), os, ou))
    (H2 : m + 1 = row.length → ∀ os ou va : Nat → Int32, os b = nI (o ++ qp_g1 kk (row.getD m 0) v).length → (∀ k, k < (o ++ qp_g1 kk (row.getD m 0) v).length → va (8 * d + k) = (o ++ qp_g1 kk (row.getD m 0) v).getD k 0) → (∀ c, c ≠ b → os c = b_outs c) → (∀ q, (q < 8 * b ∨ 8 * b + 8 ≤ q) → ou q = b_out q) → (∀ q, (q < 8 * d ∨ 8 * d + 8 ≤ q) → va q = b_values q) →
      post (nI (i + 1)) (g_count, g_height, g_open, nI (d + 1), nI b, b_sizes, b_inputs, b_kinds, b_args, b_rowAt, b_floor, upd b_lengths d (nI (o ++ qp_g1 kk (row.getD m 0) v).length), va, b_begins, b_many, b_rows, upd b_element b (nI (m + 1)), os, ou)) :
    wpY_endBlock post (g_count, g_height, g_open, nI (d + 1), nI (b + 1), b_sizes, b_inputs, b_kinds, b_args, b_rowAt, b_floor, b_lengths, b_values, b_begins, b_many, b_rows, b_element, b_outs, b_out) (nI i) := by
  have fin : ∀ os ou : Nat → Int32, os b = nI (o ++ qp_g1 kk (row.getD m 0) v).length → (∀ k, k < (o ++ qp_g1 kk (row.getD m 0) v).length → ou (8 * b + k) = (o ++ qp_g1 kk (row.getD m 0) v).getD k 0) → (∀ c, c ≠ b → os c = b_outs c) → (∀ q, (q < 8 * b ∨ 8 * b + 8 ≤ q) → ou q = b_out q) →
      wY_endBlock_113 post (nI i) (nI b) g_count g_height g_open (nI d) (nI (b + 1)) b_sizes b_inputs b_kinds b_args b_rowAt b_floor b_lengths b_values b_begins b_many b_rows b_element os ou := by
    intro os ou g1 g2 g3 g4
    have gl := qp_g1_len kk (row.getD m 0) v
    have gl2 : (o ++ qp_g1 kk (row.getD m 0) v).length ≤ 8 := by rw [List.length_append]; omega
    refine qy_end113 i j d b m row.length (o ++ qp_g1 kk (row.getD m 0) v).length hd hb hi hj hm hlen e1 e2 e3 g1 gl2 (fun z => H1 z os ou g1 g2 g3 g4) (fun z va p1 p2 => H2 z os ou va g1 (fun k hk => ?_) g3 g4 p2)
    rw [p1 k (by omega)]
    exact g2 k hk
  have put : ∀ w : Int32, qp_g1 kk (row.getD m 0) v = [w] → wY_endBlock_102 post (nI i) (nI b) w (nI (8 * b + o.length)) g_count g_height g_open (nI d) (nI (b + 1)) b_sizes b_inputs b_kinds b_args b_rowAt b_floor b_lengths b_values b_begins b_many b_rows b_element b_outs b_out := by
    intro w hw
    rw [hw] at fin
    unfold wY_endBlock_102
    try simp (disch := omega) only [qa_m8, qa_m64, qa_m512, qa_a384, qa_a64, nI_add, nI_1, nI_clamp, vp_in_nI, true_and, forall_eq, e4]
    refine fin _ _ ?_ (fun k hk => ?_) (fun c hc => pk_un hc) (fun q hq => pk_un (by omega))
    · rw [pk_us, List.length_append]; rfl
    · rw [List.length_append] at hk
      have hk' : k < o.length + 1 := hk
      by_cases z : k = o.length
      · rw [z, pk_us, qp_app_hi]
      · rw [pk_un (by omega), qp_app_lo (by omega)]; exact hou k (by omega)
  unfold wpY_endBlock
  try simp (disch := omega) only [qa_m8, qa_m64, qa_m512, qa_a384, qa_a64, nI_add, nI_1, nI_clamp, vp_in_nI, true_and, forall_eq, qa_s1, Nat.add_sub_cancel, hv, e1, hkj]
  refine pk_eq kk 20 (fun z => ?_) (fun z => ?_)
  · unfold wY_endBlock_51
    refine br_f (by decide) ?_
    have n19 : kk ≠ 19 := by omega
    refine br_c (fun g => ?_) (fun g => ?_)
    · have e : qp_g1 kk (row.getD m 0) v = [] := by unfold qp_g1; rw [if_neg n19, if_pos g]
      refine fin b_outs b_out ?_ ?_ (fun c _ => rfl) (fun q _ => rfl)
      · rw [e, List.append_nil]; exact e4
      · rw [e, List.append_nil]; exact hou
    · unfold wY_endBlock_62
      try simp (disch := omega) only [qa_m8, qa_m64, qa_m512, qa_a384, qa_a64, nI_add, nI_1, nI_clamp, vp_in_nI, true_and, forall_eq, e3, e4, hro]
      refine br_f (by decide) (put _ ?_)
      unfold qp_g1
      rw [if_neg n19, if_neg g]
  · unfold wY_endBlock_51
    refine br_t rfl ?_
    unfold wY_endBlock_62
    try simp (disch := omega) only [qa_m8, qa_m64, qa_m512, qa_a384, qa_a64, nI_add, nI_1, nI_clamp, vp_in_nI, true_and, forall_eq, e3, e4]
    refine br_t (by trivial) (put _ ?_)
    have k19 : kk = 19 := by rcases hkk with h | h <;> omega
    unfold qp_g1
    rw [if_pos k19]
end
end
section
/-! Y: a run from the start of the innermost block under way to a place -/
def qst (K : Nat → Nat) (i : Nat) : Nat := if qo K i = 0 then 0 else qb K i (qo K i - 1) + 1
def qcf (o : Nat) : Nat := if o = 0 then 64 else if o = 1 then 8 else 1
def qcst (K : Nat → Nat) (i : Nat) : Nat := qcf (qo K i) * (i - qst K i)
section
variable {K : Nat → Nat} {A : Nat → Int32} {inp : Nat → List Int32}
theorem qst_le (i : Nat) (V : ∀ j, j < i → qv K A j) : qst K i ≤ i := by
  unfold qst
  split
  · omega
  · have := (q_i4 (K := K) (A := A) (inp := fun _ => []) i V (qo K i - 1) (by omega)).1
    omega
theorem qst_b {i : Nat} (h : qp_blk (K i)) : qst K (i + 1) = i + 1 := by
  unfold qst
  rw [qo_b h, if_neg (by omega), qb_b h, Nat.add_sub_cancel]
  dsimp only
  rw [if_pos rfl]
theorem qst_s {i : Nat} (h : ¬ qp_blk (K i)) (h21 : K i ≠ 21) : qst K (i + 1) = qst K i := by
  unfold qst
  rw [qo_s h h21, qb_n h]
theorem qst_e {i : Nat} (V : ∀ j, j < i → qv K A j) (h : K i = 21) (ho : 0 < qo K i) : qst K (i + 1) = qst K (qb K i (qo K i - 1)) ∧ qst K i = qb K i (qo K i - 1) + 1 := by
  obtain ⟨a1, a2, a3, a4, a5, a6, a7, a8⟩ := q_i4 (K := K) (A := A) (inp := fun _ => []) i V (qo K i - 1) (by omega)
  refine ⟨?_, ?_⟩
  · unfold qst
    rw [qo_e h, qb_n (qnb_e h), a3]
    split
    · rfl
    · rw [(a7 (qo K i - 1 - 1) (by omega)).2.1]
  · unfold qst
    rw [if_neg (by omega)]
theorem qcst_s {i : Nat} (V : ∀ j, j < i → qv K A j) (h : ¬ qp_blk (K i)) (h21 : K i ≠ 21) : qcst K i + 1 ≤ qcst K (i + 1) := by
  have := qst_le i V
  unfold qcst
  rw [qst_s h h21, qo_s h h21, show i + 1 - qst K i = (i - qst K i) + 1 from by omega, Nat.mul_succ]
  have : 1 ≤ qcf (qo K i) := by unfold qcf; (repeat' split) <;> omega
  omega
theorem qcst_e {i : Nat} (V : ∀ j, j ≤ i → qv K A j) (h : K i = 21) (ho : 0 < qo K i) : qcst K (qb K i (qo K i - 1)) + 1 + 8 * (qcst K i + 1) ≤ qcst K (i + 1) := by
  obtain ⟨e1, e2⟩ := qst_e (fun j hj => V j (by omega)) h ho
  have I1 := q_i1 (K := K) (A := A) i (fun j hj => V j (by omega))
  have ho2 := I1.2.1
  obtain ⟨a1, a2, a3, a4, a5, a6, a7, a8⟩ := q_i4 (K := K) (A := A) (inp := fun _ => []) i (fun j hj => V j (by omega)) (qo K i - 1) (by omega)
  have l1 := qst_le (qb K i (qo K i - 1)) (fun j hj => V j (by omega))
  unfold qcst
  rw [e1, e2, a3, qo_e h]
  generalize qb K i (qo K i - 1) = j at *
  have : qo K i = 1 ∨ qo K i = 2 := by omega
  rcases this with z | z
  · rw [z]
    have c0 : qcf (1 - 1) = 64 := rfl
    have c1 : qcf 1 = 8 := rfl
    rw [c0, c1]
    omega
  · rw [z]
    have c0 : qcf (2 - 1) = 8 := rfl
    have c1 : qcf 2 = 1 := rfl
    rw [c0, c1]
    omega
theorem qcst_le (i : Nat) (hi : i ≤ 40) : qcst K i ≤ 2560 := by
  unfold qcst
  have h1 : qcf (qo K i) ≤ 64 := by unfold qcf; (repeat' split) <;> omega
  have h2 : i - qst K i ≤ 40 := by omega
  exact Nat.le_trans (Nat.mul_le_mul h1 h2) (by decide)
end
def qy_Run (post : SY → Prop) (n : Nat) (g_height g_open : Int32) (b_sizes b_inputs b_kinds b_args b_rowAt b_floor : Nat → Int32) (t i tp dp : Nat) (b_lengths b_values b_begins b_many b_rows b_element b_outs b_out : Nat → Int32) : Prop :=
  wY_work_14 post (10001 - t) (nI i) (nI t) (nI n) g_height g_open (nI tp) (nI dp) b_sizes b_inputs b_kinds b_args b_rowAt b_floor b_lengths b_values b_begins b_many b_rows b_element b_outs b_out
section
variable {g_count g_height g_open g_top g_depth : Int32} {b_sizes b_inputs b_kinds b_args b_rowAt b_floor b_lengths b_values b_begins b_many b_rows b_element b_outs b_out : Nat → Int32}
variable {K : Nat → Nat} {A : Nat → Int32} {inp : Nat → List Int32} {post : SY → Prop} {n : Nat}
theorem qy_stepS {i t : Nat} {env : qE} {mb : Nat → Nat} {ob : Nat → List Int32} (hn : n ≤ 40) (hi : i < n) (ht : t < 10000) (V : ∀ j, j < n → qv K A j) (hin : qx_Inp inp b_sizes b_inputs) (hp : ∀ j, j < n → b_kinds j = nI (K j) ∧ b_args j = A j) (hb : ¬ qp_blk (K i)) (h21 : K i ≠ 21)
    (R : qy_R K A inp i env mb ob b_lengths b_values b_begins b_many b_rows b_element b_outs b_out)
    (H : ∀ le va : Nat → Int32, qy_R K A inp (i + 1) env mb ob le va b_begins b_many b_rows b_element b_outs b_out → qy_Run post n g_height g_open b_sizes b_inputs b_kinds b_args b_rowAt b_floor (t + 1) (i + 1) (qh K (i + 1)) (qo K (i + 1)) le va b_begins b_many b_rows b_element b_outs b_out) :
    qy_Run post n g_height g_open b_sizes b_inputs b_kinds b_args b_rowAt b_floor t i (qh K i) (qo K i) b_lengths b_values b_begins b_many b_rows b_element b_outs b_out := by
  have hv := (V i hi).1
  obtain ⟨p1, p2⟩ := hp i hi
  unfold qy_Run at H ⊢
  rw [show 10001 - t = (10001 - (t + 1)) + 1 from by omega]
  refine br_f (qa_nle (b := 10000) (by omega)) (br_f (qa_nle (by omega)) ?_)
  try simp (disch := omega) only [qa_m8, qa_m64, qa_m512, qa_a384, qa_a64, nI_add, nI_1, nI_clamp, vp_in_nI, true_and, forall_eq, p1, p2]
  refine pk_eq (K i) 19 (fun z => absurd (Or.inl z) hb) (fun _ => ?_)
  refine pk_eq (K i) 20 (fun z => absurd (Or.inr z) hb) (fun _ => ?_)
  refine pk_eq (K i) 21 (fun z => absurd z h21) (fun _ => ?_)
  refine qy_carryOut (fun j hj => V j (by omega)) hin R hb h21 (fun le va R' => ?_)
  exact H le va R'
theorem qy_stepB {j e t : Nat} {env : qE} {mb : Nat → Nat} {ob : Nat → List Int32} (hn : n ≤ 40) (hje : j < e) (hen : e < n) (ht : t < 10000) (V : ∀ j, j < n → qv K A j) (hin : qx_Inp inp b_sizes b_inputs) (hp : ∀ j, j < n → b_kinds j = nI (K j) ∧ b_args j = A j) (hb : qp_blk (K j)) (he : K e = 21) (hqb : qb K e (qo K j) = j) (hqo : qo K e = qo K j + 1)
    (R : qy_R K A inp j env mb ob b_lengths b_values b_begins b_many b_rows b_element b_outs b_out)
    (H0 : qn K A inp j (qh K j - 1) env = [] → qy_Run post n g_height g_open b_sizes b_inputs b_kinds b_args b_rowAt b_floor (t + 1) (e + 1) (qh K j) (qo K j) b_lengths b_values b_begins b_many b_rows b_element b_outs b_out)
    (H : ∀ be ma ro el os : Nat → Int32, qn K A inp j (qh K j - 1) env ≠ [] → qy_R K A inp (j + 1) (upd env (qo K j) ((qn K A inp j (qh K j - 1) env).getD 0 0)) (fun c => if c = qo K j then 0 else mb c) (fun c => if c = qo K j then [] else ob c) b_lengths b_values be ma ro el os b_out → qy_Run post n g_height g_open b_sizes b_inputs b_kinds b_args b_rowAt b_floor (t + 1) (j + 1) (qh K (j + 1)) (qo K (j + 1)) b_lengths b_values be ma ro el os b_out) :
    qy_Run post n g_height g_open b_sizes b_inputs b_kinds b_args b_rowAt b_floor t j (qh K j) (qo K j) b_lengths b_values b_begins b_many b_rows b_element b_outs b_out := by
  have I2 := q_i2 (K := K) (A := A) (inp := inp) (fun b hb => (hin b hb).1) j (fun i hi => V i (by omega))
  have I1 := q_i1 (K := K) (A := A) j (fun i hi => V i (by omega))
  have I3 := q_i3 (K := K) (A := A) (inp := inp) j (fun i hi => V i (by omega))
  obtain ⟨v1, v2, v3, v4, v5, v6, v7⟩ := V j (by omega)
  clear v2 v3
  have h21 : K j ≠ 21 := by intro z; rcases hb with hb | hb <;> omega
  have htk : qp_tk (K j) = 1 := by rcases hb with hb | hb <;> rw [hb] <;> rfl
  have w1 := (v5 h21).1
  have ho1 := v7 hb
  have h6 := I1.1
  obtain ⟨p1, p2⟩ := hp j (by omega)
  obtain ⟨d, hd⟩ : ∃ d, qh K j = d + 1 := ⟨qh K j - 1, by omega⟩
  obtain ⟨r1, r2⟩ := R
  obtain ⟨q1, q2⟩ := r1 d (by omega)
  have q8 := (I2.1 d env (by omega)).2
  rw [show qh K j - 1 = d from by omega] at H0 H
  have hh : qh K (j + 1) = d := by rw [qh_b hb]; omega
  have hoo : qo K (j + 1) = qo K j + 1 := qo_b hb
  have beg : wpY_begin (fun r u => match u with | (g_count_7, g_height_7, g_open_7, g_top_7, g_depth_7, b_sizes_7, b_inputs_7, b_kinds_7, b_args_7, b_rowAt_7, b_floor_7, b_lengths_7, b_values_7, b_begins_7, b_many_7, b_rows_7, b_element_7, b_outs_7, b_out_7) => wY_work_14 post (10001 - (t + 1)) r (nI (t + 1)) g_count_7 g_height_7 g_open_7 g_top_7 g_depth_7 b_sizes_7 b_inputs_7 b_kinds_7 b_args_7 b_rowAt_7 b_floor_7 b_lengths_7 b_values_7 b_begins_7 b_many_7 b_rows_7 b_element_7 b_outs_7 b_out_7) (nI n, g_height, g_open, nI (qh K j), nI (qo K j), b_sizes, b_inputs, b_kinds, b_args, b_rowAt, b_floor, b_lengths, b_values, b_begins, b_many, b_rows, b_element, b_outs, b_out) (nI j) := by
    rw [hd]
    refine qy_begin n j e d (qo K j) _ hn (by omega) ho1 (by omega) q1 q8 (fun z => ?_) (fun z ro g1 g2 => ?_)
    · refine qy_endOf (K := K) n j e (qo K j) hn hen hje (fun k hk => (hp k hk).1) (fun k hk => (V k hk).1) hoo (fun k k1 k2 => ⟨?_, (q_i1 (K := K) (A := A) k (fun i hi => V i (by omega))).2.1⟩) ⟨he, hqo⟩ ?_
      · have := (q_i4 (K := K) (A := A) (inp := inp) e (fun i hi => V i (by omega)) (qo K j) (by omega)).2.2.2.2.2.2.2 k (by rw [hqb]; exact k1) k2
        exact this
      · try simp (disch := omega) only [qa_m8, qa_m64, qa_m512, qa_a384, qa_a64, nI_add, nI_1, nI_clamp, vp_in_nI, true_and, forall_eq]
        have := H0 (List.length_eq_zero_iff.mp z)
        rw [hd] at this
        exact this
    · have z' : qn K A inp j d env ≠ [] := fun w => z (by rw [w]; rfl)
      have := H (upd b_begins (qo K j) (nI j)) (upd b_many (qo K j) (nI (qn K A inp j d env).length)) ro (upd b_element (qo K j) 0) (upd b_outs (qo K j) 0) z' ?_
      · rw [hh, hoo] at this
        exact this
      · unfold qy_R
        rw [hh, hoo, qn_b hb, qr_b hb, qb_b hb]
        refine ⟨fun x hx => ?_, fun b hbb => ?_⟩
        · rw [← I3.1 x (by omega) env _ (fun c hc => by rw [pk_un (by omega)])]
          exact r1 x (by omega)
        · try dsimp only
          by_cases zb : b = qo K j
          · subst zb
            rw [if_pos rfl, if_pos rfl, if_pos rfl, if_pos rfl, show qh K j - 1 = d from by omega]
            rw [← I3.1 d (by omega) env _ (fun c hc => by rw [pk_un (by omega)])]
            refine ⟨pk_us, pk_us, fun k hk => ?_, pk_us, by omega, pk_us, pk_us, Nat.le_refl 0, fun k hk => absurd hk (Nat.not_lt_zero k)⟩
            rw [g1 k (by omega)]
            exact q2 k hk
          · rw [if_neg zb, if_neg zb, if_neg zb, if_neg zb]
            rw [← I3.2.1 b (by omega) env _ (fun c hc => by rw [pk_un (by omega)]), pk_un zb]
            obtain ⟨c1, c2, c3, c4, c5, c6, c7, c8, c9⟩ := r2 b (by omega)
            have c10 := I2.2 b env (by omega)
            refine ⟨by rw [pk_un zb]; exact c1, by rw [pk_un zb]; exact c2, fun k hk => ?_, by rw [pk_un zb]; exact c4, c5, c6, by rw [pk_un zb]; exact c7, c8, c9⟩
            rw [g2 _ (by omega)]
            exact c3 k hk
  unfold qy_Run
  rw [show 10001 - t = (10001 - (t + 1)) + 1 from by omega]
  refine br_f (qa_nle (b := 10000) (by omega)) (br_f (qa_nle (by omega)) ?_)
  try simp (disch := omega) only [qa_m8, qa_m64, qa_m512, qa_a384, qa_a64, nI_add, nI_1, nI_clamp, vp_in_nI, true_and, forall_eq, p1]
  unfold wY_work_48
  try simp (disch := omega) only [qa_m8, qa_m64, qa_m512, qa_a384, qa_a64, nI_add, nI_1, nI_clamp, vp_in_nI, true_and, forall_eq]
  refine pk_eq (K j) 19 (fun z => ?_) (fun n19 => ?_)
  · exact beg
  refine pk_eq (K j) 20 (fun z => ?_) (fun n20 => absurd hb (by omega))
  exact beg
end
end
section
/-! Y: a block's end, a segment, the whole program -/
theorem qy_R_congr {K : Nat → Nat} {A : Nat → Int32} {inp : Nat → List Int32} {i : Nat} {env env' : qE} {mb mb' : Nat → Nat} {ob ob' : Nat → List Int32} {le va be ma ro el os ou : Nat → Int32} (V : ∀ j, j < i → qv K A j)
    (h : ∀ c, c < qo K i → env c = env' c ∧ mb c = mb' c ∧ ob c = ob' c) (R : qy_R K A inp i env mb ob le va be ma ro el os ou) : qy_R K A inp i env' mb' ob' le va be ma ro el os ou := by
  have I3 := q_i3 (K := K) (A := A) (inp := inp) i V
  obtain ⟨r1, r2⟩ := R
  refine ⟨fun e he => ?_, fun b hb => ?_⟩
  · rw [← I3.1 e he env env' (fun c hc => (h c hc).1)]; exact r1 e he
  · obtain ⟨h1, h2, h3⟩ := h b hb
    rw [← I3.2.1 b hb env env' (fun c hc => (h c (by omega)).1), ← h1, ← h2, ← h3]
    exact r2 b hb
section
variable {g_count g_height g_open g_top g_depth : Int32} {b_sizes b_inputs b_kinds b_args b_rowAt b_floor b_lengths b_values b_begins b_many b_rows b_element b_outs b_out : Nat → Int32}
variable {K : Nat → Nat} {A : Nat → Int32} {inp : Nat → List Int32} {post : SY → Prop} {n : Nat}
theorem qy_stepE {i t : Nat} {env : qE} {mb : Nat → Nat} {ob : Nat → List Int32} (b j d : Nat) (hn : n ≤ 40) (hi : i < n) (ht : t < 10000) (V : ∀ j, j < n → qv K A j) (hin : qx_Inp inp b_sizes b_inputs) (hp : ∀ j, j < n → b_kinds j = nI (K j) ∧ b_args j = A j) (he : K i = 21) (hbo : qo K i = b + 1) (hj : qb K i b = j) (hd : qh K i = d + 1)
    (R : qy_R K A inp i env mb ob b_lengths b_values b_begins b_many b_rows b_element b_outs b_out)
    (hcol : mb b + 1 = (qr K A inp i b env).length → ob b ++ qp_g1 (K j) ((qr K A inp i b env).getD (mb b) 0) ((qn K A inp i d env).getD 0 0) = qn K A inp (i + 1) d env)
    (H1 : mb b + 1 < (qr K A inp i b env).length → ∀ el os ou : Nat → Int32, qy_R K A inp (j + 1) (upd env b ((qr K A inp i b env).getD (mb b + 1) 0)) (fun c => if c = b then mb b + 1 else mb c) (fun c => if c = b then ob b ++ qp_g1 (K j) ((qr K A inp i b env).getD (mb b) 0) ((qn K A inp i d env).getD 0 0) else ob c) b_lengths b_values b_begins b_many b_rows el os ou →
      qy_Run post n g_height g_open b_sizes b_inputs b_kinds b_args b_rowAt b_floor (t + 1) (j + 1) (qh K (j + 1)) (qo K (j + 1)) b_lengths b_values b_begins b_many b_rows el os ou)
    (H2 : mb b + 1 = (qr K A inp i b env).length → ∀ le va el os ou : Nat → Int32, qy_R K A inp (i + 1) env mb ob le va b_begins b_many b_rows el os ou → qy_Run post n g_height g_open b_sizes b_inputs b_kinds b_args b_rowAt b_floor (t + 1) (i + 1) (qh K (i + 1)) (qo K (i + 1)) le va b_begins b_many b_rows el os ou) :
    qy_Run post n g_height g_open b_sizes b_inputs b_kinds b_args b_rowAt b_floor t i (qh K i) (qo K i) b_lengths b_values b_begins b_many b_rows b_element b_outs b_out := by
  have I2 := q_i2 (K := K) (A := A) (inp := inp) (fun b hb => (hin b hb).1) i (fun i hi => V i (by omega))
  have I1 := q_i1 (K := K) (A := A) i (fun i hi => V i (by omega))
  have I3 := q_i3 (K := K) (A := A) (inp := inp) i (fun i hi => V i (by omega))
  obtain ⟨v1, v2, v3, v4, v5, v6, v7⟩ := V i (by omega)
  obtain ⟨w1, w2, w3⟩ := v4 he
  clear v2 v3 v4 v5 v6 v7
  have h6 := I1.1
  have ho2 := I1.2.1
  rw [show qo K i - 1 = b from by omega] at w2
  rw [show qh K i - 1 = d from by omega] at w3
  obtain ⟨a1, a2, a3, a4, a5, a6, a7, a8⟩ := q_i4 (K := K) (A := A) (inp := inp) i (fun i hi => V i (by omega)) b (by omega)
  rw [hj] at a1 a2 a3 a4 a5 a6 a7 a8
  obtain ⟨p1, p2⟩ := hp i (by omega)
  obtain ⟨r1, r2⟩ := R
  obtain ⟨c1, c2, c3, c4, c5, c6, c7, c8, c9⟩ := r2 b (by omega)
  rw [hj] at c1
  have c10 := I2.2 b env (by omega)
  have l1 := (I2.1 d env (by omega)).1 w3
  have hv : b_values (8 * d) = (qn K A inp i d env).getD 0 0 := (r1 d (by omega)).2 0 (by omega)
  have hh1 : qh K (j + 1) = d := by rw [qh_b a2]; omega
  have ho1 : qo K (j + 1) = b + 1 := by rw [qo_b a2, a3]
  have hh2 : qh K (i + 1) = d + 1 := by rw [qh_e he]; exact hd
  have ho3 : qo K (i + 1) = b := by rw [qo_e he]; omega
  have blk : wpY_endBlock (fun r u => match u with | (g_count_7, g_height_7, g_open_7, g_top_7, g_depth_7, b_sizes_7, b_inputs_7, b_kinds_7, b_args_7, b_rowAt_7, b_floor_7, b_lengths_7, b_values_7, b_begins_7, b_many_7, b_rows_7, b_element_7, b_outs_7, b_out_7) => wY_work_14 post (10001 - (t + 1)) r (nI (t + 1)) g_count_7 g_height_7 g_open_7 g_top_7 g_depth_7 b_sizes_7 b_inputs_7 b_kinds_7 b_args_7 b_rowAt_7 b_floor_7 b_lengths_7 b_values_7 b_begins_7 b_many_7 b_rows_7 b_element_7 b_outs_7 b_out_7) (nI n, g_height, g_open, nI (qh K i), nI (qo K i), b_sizes, b_inputs, b_kinds, b_args, b_rowAt, b_floor, b_lengths, b_values, b_begins, b_many, b_rows, b_element, b_outs, b_out) (nI i) := by
    rw [hd, hbo]
    refine qy_endBlock i j d b (mb b) (K j) (qr K A inp i b env) (ob b) ((qn K A inp i d env).getD 0 0) (by omega) (by omega) (by omega) (by omega) c5 c10 a2 (hp j (by omega)).1 hv c1 c2 c4 c7 c8 (c3 _ c5) c9 ?_ ?_
    · intro z os ou g1 g2 g3 g4
      have := H1 z (upd b_element b (nI (mb b + 1))) os ou ?_
      · rw [hh1, ho1] at this
        exact this
      · unfold qy_R
        rw [hh1, ho1, qn_b a2, qr_b a2, qb_b a2]
        refine ⟨fun x hx => ?_, fun c hc => ?_⟩
        · rw [← a5 x (by omega)]
          rw [← I3.2.2 b x (by omega) (by omega) env _ (fun c hc => by rw [pk_un (by omega)])]
          exact r1 x (by omega)
        · try dsimp only
          rw [a3]
          by_cases zc : c = b
          · subst zc
            rw [if_pos rfl, if_pos rfl, if_pos rfl, if_pos rfl, a4, Nat.add_sub_cancel, ← a6]
            rw [← I3.2.1 c (by omega) env _ (fun c' hc' => by rw [pk_un (by omega)])]
            refine ⟨c1, c2, c3, pk_us, z, pk_us, g1, ?_, g2⟩
            have := qp_g1_len (K j) ((qr K A inp i c env).getD (mb c) 0) ((qn K A inp i d env).getD 0 0)
            rw [List.length_append]
            omega
          · rw [if_neg zc, if_neg zc, if_neg zc, if_neg zc]
            obtain ⟨t1, t2, t3⟩ := a7 c (by omega)
            rw [t2, t3]
            rw [← I3.2.1 c (by omega) env _ (fun c' hc' => by rw [pk_un (by omega)]), pk_un zc]
            obtain ⟨d1, d2, d3, d4, d5, d6, d7, d8, d9⟩ := r2 c (by omega)
            have d10 := I2.2 c env (by omega)
            refine ⟨d1, d2, d3, by rw [pk_un zc]; exact d4, d5, d6, by rw [g3 c zc]; exact d7, d8, fun k hk => ?_⟩
            rw [g4 _ (by omega)]
            exact d9 k hk
    · intro z os ou va g1 g2 g3 g4 g5
      rw [hcol z] at g1 g2
      have := H2 z (upd b_lengths d (nI (qn K A inp (i + 1) d env).length)) va (upd b_element b (nI (mb b + 1))) os ou ?_
      · rw [hh2, ho3] at this
        rw [hcol z]
        exact this
      · unfold qy_R
        rw [hh2, ho3, qr_e he, qb_n (qnb_e he)]
        refine ⟨fun x hx => ?_, fun c hc => ?_⟩
        · by_cases zx : x = d
          · subst zx
            exact ⟨pk_us, g2⟩
          · have ex : qn K A inp (i + 1) x = qn K A inp i x := by
              rw [qn_e he]
              exact if_neg (by omega)
            rw [ex]
            obtain ⟨e1, e2⟩ := r1 x (by omega)
            have e8 := (I2.1 x env (by omega)).2
            refine ⟨by rw [pk_un zx]; exact e1, fun k hk => ?_⟩
            rw [g5 _ (by omega)]
            exact e2 k hk
        · obtain ⟨d1, d2, d3, d4, d5, d6, d7, d8, d9⟩ := r2 c (by omega)
          have d10 := I2.2 c env (by omega)
          have zc : c ≠ b := by omega
          refine ⟨d1, d2, d3, by rw [pk_un zc]; exact d4, d5, d6, by rw [g3 c zc]; exact d7, d8, fun k hk => ?_⟩
          rw [g4 _ (by omega)]
          exact d9 k hk
  unfold qy_Run
  rw [show 10001 - t = (10001 - (t + 1)) + 1 from by omega]
  refine br_f (qa_nle (b := 10000) (by omega)) (br_f (qa_nle (by omega)) ?_)
  try simp (disch := omega) only [qa_m8, qa_m64, qa_m512, qa_a384, qa_a64, nI_add, nI_1, nI_clamp, vp_in_nI, true_and, forall_eq, p1]
  refine pk_eq (K i) 19 (fun z => absurd he (by omega)) (fun n19 => ?_)
  refine pk_eq (K i) 20 (fun z => absurd he (by omega)) (fun n20 => ?_)
  refine pk_eq (K i) 21 (fun z => ?_) (fun n21 => absurd he n21)
  exact blk
theorem qy_seg (hn : n ≤ 40) (V : ∀ j, j < n → qv K A j) (hin : qx_Inp inp b_sizes b_inputs) (hp : ∀ j, j < n → b_kinds j = nI (K j) ∧ b_args j = A j) :
    ∀ i, i ≤ n → ∀ (t : Nat) (env : qE) (mb : Nat → Nat) (ob : Nat → List Int32) (le va be ma ro el os ou : Nat → Int32), t + qcst K i ≤ 9000 → qy_R K A inp (qst K i) env mb ob le va be ma ro el os ou →
      (∀ (t' : Nat) (le' va' be' ma' ro' el' os' ou' : Nat → Int32), t' ≤ t + qcst K i → qy_R K A inp i env mb ob le' va' be' ma' ro' el' os' ou' → qy_Run post n g_height g_open b_sizes b_inputs b_kinds b_args b_rowAt b_floor t' i (qh K i) (qo K i) le' va' be' ma' ro' el' os' ou') →
      qy_Run post n g_height g_open b_sizes b_inputs b_kinds b_args b_rowAt b_floor t (qst K i) (qh K (qst K i)) (qo K (qst K i)) le va be ma ro el os ou := by
  intro i
  induction i using Nat.strongRecOn with
  | _ i ih =>
    intro hi t env mb ob le va be ma ro el os ou ht R H
    by_cases hs : qst K i = i
    · rw [hs] at R ⊢
      exact H t le va be ma ro el os ou (by omega) R
    · obtain ⟨e, rfl⟩ : ∃ e, i = e + 1 := by
        refine ⟨i - 1, ?_⟩
        by_cases z : i = 0
        · subst z; exact absurd rfl hs
        · omega
      by_cases hb : qp_blk (K e)
      · exact absurd (qst_b hb) hs
      · by_cases h21 : K e = 21
        · have I1 := q_i1 (K := K) (A := A) e (fun j hj => V j (by omega))
          obtain ⟨w1, w2, w3⟩ := (V e (by omega)).2.2.2.1 h21
          have hc := qcst_e (fun j hj => V j (by omega)) h21 w1
          obtain ⟨s1, s2⟩ := qst_e (fun j hj => V j (by omega)) h21 w1
          obtain ⟨b, hbo⟩ : ∃ b, qo K e = b + 1 := ⟨qo K e - 1, by omega⟩
          obtain ⟨d, hd⟩ : ∃ d, qh K e = d + 1 := ⟨qh K e - 1, by omega⟩
          rw [show qo K e - 1 = b from by omega] at hc s1 s2 w2
          rw [show qh K e - 1 = d from by omega] at w3
          have i4 := q_i4 (K := K) (A := A) (inp := inp) e (fun i hi => V i (by omega)) b (by omega)
          obtain ⟨j, hj⟩ : ∃ j, qb K e b = j := ⟨_, rfl⟩
          obtain ⟨a1, a2, a3, a4, a5, a6, a7, a8⟩ := i4
          rw [hj] at hc s1 s2 a1 a2 a3 a4 a5 a6 a7 a8
          have hfd : qf K e b = d := by omega
          rw [hfd] at a4 a5 a6
          have hh2 : qh K (e + 1) = qh K j := by rw [qh_e h21]; omega
          have ho3 : qo K (e + 1) = qo K j := by rw [qo_e h21]; omega
          have I3 := q_i3 (K := K) (A := A) (inp := inp) e (fun j hj => V j (by omega))
          have I2 := q_i2 (K := K) (A := A) (inp := inp) (fun b hb => (hin b hb).1) e (fun i hi => V i (by omega))
          have hrow8 := I2.2 b env (by omega)
          have ecol : ∀ env' : qE, qn K A inp (e + 1) d env' = qp_gather (K j) (fun x => (qn K A inp e d (upd env' b x)).getD 0 0) (qr K A inp e b env') := by
            intro env'
            rw [qn_e h21]
            try dsimp only
            rw [if_pos (by omega), show qo K e - 1 = b from by omega, show qh K e - 1 = d from by omega, hj]
            rfl
          rw [s1] at R ⊢
          refine ih j (by omega) (by omega) t env mb ob le va be ma ro el os ou (by omega) R (fun t1 le1 va1 be1 ma1 ro1 el1 os1 ou1 ht1 R1 => ?_)
          refine qy_stepB hn a1 (by omega) (by omega) V hin hp a2 h21 (by rw [a3]; exact hj) (by omega) R1 (fun hnil => ?_) (fun be2 ma2 ro2 el2 os2 hne R2 => ?_)
          · have := H (t1 + 1) le1 va1 be1 ma1 ro1 el1 os1 ou1 (by omega) ?_
            · rw [hh2, ho3] at this
              exact this
            · obtain ⟨r1, r2⟩ := R1
              rw [show qh K j - 1 = d from by omega] at hnil
              unfold qy_R
              rw [hh2, ho3, qr_e h21, qb_n (qnb_e h21)]
              refine ⟨fun x hx => ?_, fun c hc => ?_⟩
              · by_cases zx : x = d
                · subst zx
                  rw [ecol env, a6, hnil, qp_gather_nil, ← hnil]
                  exact r1 x hx
                · have ex : qn K A inp (e + 1) x = qn K A inp e x := by
                    rw [qn_e h21]
                    exact if_neg (by omega)
                  rw [ex, a5 x (by omega)]
                  exact r1 x hx
              · obtain ⟨t1, t2, t3⟩ := a7 c (by omega)
                rw [← t2, ← t3]
                exact r2 c hc
          · rw [a3, show qh K j - 1 = d from by omega, ← a6] at R2
            rw [show qh K j - 1 = d from by omega, ← a6] at hne
            have ho1 : qo K (j + 1) = b + 1 := by rw [qo_b a2, a3]
            have key : ∀ (r m t2 : Nat) (le va be ma ro el os ou : Nat → Int32), m + (r + 1) = (qr K A inp e b env).length → t2 + (r + 1) * (qcst K e + 1) ≤ t1 + 1 + 8 * (qcst K e + 1) →
                qy_R K A inp (j + 1) (upd env b ((qr K A inp e b env).getD m 0)) (fun c => if c = b then m else mb c) (fun c => if c = b then qp_gather (K j) (fun x => (qn K A inp e d (upd env b x)).getD 0 0) ((qr K A inp e b env).take m) else ob c) le va be ma ro el os ou →
                qy_Run post n g_height g_open b_sizes b_inputs b_kinds b_args b_rowAt b_floor t2 (j + 1) (qh K (j + 1)) (qo K (j + 1)) le va be ma ro el os ou := by
              intro r
              induction r with
              | zero =>
                intro m t2 le va be ma ro el os ou hm ht2 R2
                rw [← s2] at R2 ⊢
                refine ih e (by omega) (by omega) t2 _ _ _ le va be ma ro el os ou (by omega) R2 (fun t3 le3 va3 be3 ma3 ro3 el3 os3 ou3 ht3 R3 => ?_)
                have erow := I3.2.1 b (by omega) (upd env b ((qr K A inp e b env).getD m 0)) env (fun c hc => by rw [pk_un (by omega)])
                refine qy_stepE b j d hn (by omega) (by omega) V hin hp h21 hbo hj hd R3 ?_ ?_ ?_
                · rw [if_pos rfl, if_pos rfl, erow]
                  intro z
                  rw [ecol, erow, ← qp_gather_take (f := fun x => (qn K A inp e d (upd env b x)).getD 0 0) (by omega), List.take_of_length_le (by omega)]
                  refine qp_gather_congr (fun x => ?_)
                  congr 2
                  funext c
                  unfold upd
                  split <;> rfl
                · rw [if_pos rfl, erow]
                  intro z
                  omega
                · intro z le4 va4 el4 os4 ou4 R4
                  refine H (t3 + 1) le4 va4 be3 ma3 ro3 el4 os4 ou4 (by omega) (qy_R_congr (fun j hj => V j (by omega)) (fun c hc => ?_) R4)
                  have : c ≠ b := by omega
                  rw [pk_un this, if_neg this, if_neg this]
                  exact ⟨rfl, rfl, rfl⟩
              | succ r ihr =>
                intro m t2 le va be ma ro el os ou hm ht2 R2
                rw [← s2] at R2 ⊢
                have hmul := Nat.succ_mul (r + 1) (qcst K e + 1)
                rw [Nat.succ_eq_add_one] at hmul
                refine ih e (by omega) (by omega) t2 _ _ _ le va be ma ro el os ou (by omega) R2 (fun t3 le3 va3 be3 ma3 ro3 el3 os3 ou3 ht3 R3 => ?_)
                have erow := I3.2.1 b (by omega) (upd env b ((qr K A inp e b env).getD m 0)) env (fun c hc => by rw [pk_un (by omega)])
                refine qy_stepE b j d hn (by omega) (by omega) V hin hp h21 hbo hj hd R3 ?_ ?_ ?_
                · rw [if_pos rfl, erow]
                  intro z
                  omega
                · rw [if_pos rfl, if_pos rfl, erow]
                  intro z el4 os4 ou4 R4
                  refine ihr (m + 1) (t3 + 1) le3 va3 be3 ma3 ro3 el4 os4 ou4 (by omega) (by omega) (qy_R_congr (fun j hj => V j (by omega)) (fun c hc => ?_) R4)
                  rw [ho1] at hc
                  try dsimp only
                  by_cases zc : c = b
                  · subst zc
                    rw [pk_us, pk_us, if_pos rfl, if_pos rfl, if_pos rfl, if_pos rfl, qp_gather_take (by omega)]
                    exact ⟨rfl, rfl, rfl⟩
                  · rw [pk_un zc, pk_un zc, pk_un zc, if_neg zc, if_neg zc, if_neg zc, if_neg zc, if_neg zc, if_neg zc]
                    exact ⟨rfl, rfl, rfl⟩
                · rw [if_pos rfl, erow]
                  intro z
                  omega
            have hlen : (qr K A inp e b env).length ≠ 0 := fun z => hne (List.length_eq_zero_iff.mp z)
            obtain ⟨r, hr⟩ : ∃ r, (qr K A inp e b env).length = r + 1 := ⟨(qr K A inp e b env).length - 1, by omega⟩
            refine key r 0 (t1 + 1) _ _ _ _ _ _ _ _ (by omega) ?_ ?_
            · have : (r + 1) * (qcst K e + 1) ≤ 8 * (qcst K e + 1) := Nat.mul_le_mul_right _ (by omega)
              omega
            · rw [List.take_zero, qp_gather_nil]
              exact R2
        · have hc := qcst_s (fun j hj => V j (by omega)) hb h21
          rw [qst_s hb h21] at R ⊢
          refine ih e (by omega) (by omega) t env mb ob le va be ma ro el os ou (by omega) R (fun t1 le1 va1 be1 ma1 ro1 el1 os1 ou1 ht1 R1 => ?_)
          refine qy_stepS hn (by omega) (by omega) V hin hp hb h21 R1 (fun le2 va2 R2 => ?_)
          exact H (t1 + 1) le2 va2 be1 ma1 ro1 el1 os1 ou1 (by omega) R2
theorem qy_work (hn : n ≤ 40) (V : ∀ j, j < n → qv K A j) (hin : qx_Inp inp b_sizes b_inputs) (hp : ∀ j, j < n → b_kinds j = nI (K j) ∧ b_args j = A j) (h0 : qo K n = 0) (h1 : qh K n = 1)
    (H : ∀ (tp dp : Int32) (le va be ma ro el os ou : Nat → Int32), qy_Rep le va 0 (qn K A inp n 0 (fun _ => 0)) → post (nI n, g_height, g_open, tp, dp, b_sizes, b_inputs, b_kinds, b_args, b_rowAt, b_floor, le, va, be, ma, ro, el, os, ou)) :
    wpY_work post (nI n, g_height, g_open, g_top, g_depth, b_sizes, b_inputs, b_kinds, b_args, b_rowAt, b_floor, b_lengths, b_values, b_begins, b_many, b_rows, b_element, b_outs, b_out) := by
  have hs : qst K n = 0 := by unfold qst; rw [if_pos h0]
  have hc := qcst_le (K := K) n hn
  have seg := qy_seg (post := post) (g_height := g_height) (g_open := g_open) (b_rowAt := b_rowAt) (b_floor := b_floor) hn V hin hp n (Nat.le_refl n) 0 (fun _ => 0) (fun _ => 0) (fun _ => []) b_lengths b_values b_begins b_many b_rows b_element b_outs b_out (by omega) (by
    rw [hs]
    exact ⟨fun e he => absurd he (Nat.not_lt_zero e), fun b hb => absurd hb (Nat.not_lt_zero b)⟩) (fun t' le' va' be' ma' ro' el' os' ou' ht' R' => by
    unfold qy_Run
    rw [show 10001 - t' = (10000 - t') + 1 from by omega]
    refine br_f (qa_nle (b := 10000) (by omega)) (br_t (qa_le (Nat.le_refl n)) ?_)
    exact H _ _ le' va' be' ma' ro' el' os' ou' (R'.1 0 (by omega)))
  rw [hs] at seg
  unfold wpY_work
  exact ⟨10001, seg⟩
end
end
section
/-! both: what stands on the program's stack; tokens -/
def q_Chk (K : Nat → Nat) (i : Nat) (rw fl : Nat → Int32) : Prop := (∀ e, e < qh K i → rw e = qp_b (qw K i e)) ∧ (∀ b, b < qo K i → fl b = nI (qf K i b))
theorem qp_b_inj {x y : Bool} : qp_b x = qp_b y ↔ x = y := by cases x <;> cases y <;> decide
theorem qp_b_0 {x : Bool} : qp_b x = 0 ↔ x = false := by cases x <;> decide
theorem qp_b_nar (x : Bool) : vp_nar .boolean (qp_b x) = qp_b x := by cases x <;> rfl
section
variable {K : Nat → Nat} {A : Nat → Int32} {i : Nat} {rw fl : Nat → Int32}
theorem q_chk_b (hk : qp_blk (K i)) (h : q_Chk K i rw fl) : q_Chk K (i + 1) rw (upd fl (qo K i) (nI (qh K i - 1))) := by
  obtain ⟨h1, h2⟩ := h
  unfold q_Chk
  rw [qh_b hk, qo_b hk, qw_b hk, qf_b hk]
  refine ⟨fun e he => h1 e (by omega), fun b hb => ?_⟩
  try dsimp only
  by_cases z : b = qo K i
  · rw [if_pos z, z, pk_us]
  · rw [if_neg z, pk_un z]; exact h2 b (by omega)
theorem q_chk_e (hk : K i = 21) (h : q_Chk K i rw fl) : q_Chk K (i + 1) (upd rw (qh K i - 1) 1) fl := by
  obtain ⟨h1, h2⟩ := h
  unfold q_Chk
  rw [qh_e hk, qo_e hk, qw_e hk, qf_n (qnb_e hk)]
  refine ⟨fun e he => ?_, fun b hb => h2 b (by omega)⟩
  try dsimp only
  by_cases z : e = qh K i - 1
  · rw [if_pos z, z, pk_us]; rfl
  · rw [if_neg z, pk_un z]; exact h1 e he
theorem q_chk_s (hb : ¬ qp_blk (K i)) (h21 : K i ≠ 21) (h : q_Chk K i rw fl) : q_Chk K (i + 1) (upd rw (qh K i - qp_tk (K i)) (qp_b (qp_gv (K i)))) fl := by
  obtain ⟨h1, h2⟩ := h
  unfold q_Chk
  rw [qh_s hb h21, qo_s hb h21, qw_s hb h21, qf_n hb]
  refine ⟨fun e he => ?_, h2⟩
  try dsimp only
  by_cases z : e = qh K i - qp_tk (K i)
  · rw [if_pos z, z, pk_us]
  · rw [if_neg z, pk_un z]; exact h1 e (by omega)
end
theorem qx_givesRow {post : Int32 → Prop} (k : Nat) (hk : k < 22) (H : post (qp_b (qp_gv k))) : wpX_givesRow post (nI k) := by
  have t1 : qp_gv k = true → post 1 := fun e => by rw [e] at H; exact H
  have t0 : qp_gv k = false → post 0 := fun e => by rw [e] at H; exact H
  refine pk_eq k 1 (fun z => t1 (by rw [z]; rfl)) (fun z => ?_)
  exact pk_lt k 14 (fun w => t0 (qp_gv_f z w)) (fun w => t1 (qp_gv_t w))
section
variable {f_size f_height f_open f_depth f_level f_known f_resultSort f_resultSize : Int32} {a_inputSize a_inputs a_kind a_arg a_row a_begun a_levelOf a_head a_data a_lanes a_element a_outside a_blockKind a_results : Nat → Int32}
variable {K : Nat → Nat} {A : Nat → Int32} {i : Nat}
theorem qx_follow {post : SX → Prop} (V : ∀ j, j ≤ i → qv K A j) (hc : q_Chk K i a_row a_begun)
    (H : ∀ rw fl : Nat → Int32, q_Chk K (i + 1) rw fl → post (f_size, nI (qh K (i + 1)), nI (qo K (i + 1)), f_depth, f_level, f_known, f_resultSort, f_resultSize, a_inputSize, a_inputs, a_kind, a_arg, rw, fl, a_levelOf, a_head, a_data, a_lanes, a_element, a_outside, a_blockKind, a_results)) :
    wpX_follow post (f_size, nI (qh K i), nI (qo K i), f_depth, f_level, f_known, f_resultSort, f_resultSize, a_inputSize, a_inputs, a_kind, a_arg, a_row, a_begun, a_levelOf, a_head, a_data, a_lanes, a_element, a_outside, a_blockKind, a_results) (nI (K i)) (nI (qp_tk (K i))) := by
  have I1 := q_i1 (K := K) (A := A) i (fun j hj => V j (by omega))
  have I1' := q_i1 (K := K) (A := A) (i + 1) (fun j hj => V j (by omega))
  obtain ⟨v1, v2, v3, v4, v5, v6, v7⟩ := V i (Nat.le_refl i)
  clear v2 v3
  have h6 := I1.1
  have ho2 := I1.2.1
  have h6' := I1'.1
  unfold wpX_follow
  try dsimp only
  have blk : qp_blk (K i) → wX_follow_12 post f_size (nI (qh K i)) (nI (qo K i)) f_depth f_level f_known f_resultSort f_resultSize a_inputSize a_inputs a_kind a_arg a_row a_begun a_levelOf a_head a_data a_lanes a_element a_outside a_blockKind a_results := by
    intro hk
    have h21 : K i ≠ 21 := by intro z; rcases hk with hk | hk <;> omega
    have ht : qp_tk (K i) = 1 := by rcases hk with hk | hk <;> rw [hk] <;> rfl
    have w1 := (v5 h21).1
    have w7 := v7 hk
    have := H _ _ (q_chk_b hk hc)
    rw [qh_b hk, qo_b hk] at this
    unfold wX_follow_12
    try simp (disch := omega) only [qa_m8, qa_m64, qa_m512, qa_a384, qa_a64, nI_add, nI_1, nI_clamp, vp_in_nI, true_and, forall_eq, qa_s1]
    exact this
  refine pk_eq (K i) 19 (fun z => blk (Or.inl z)) (fun n19 => ?_)
  refine pk_eq (K i) 20 (fun z => blk (Or.inr z)) (fun n20 => ?_)
  have hb : ¬ qp_blk (K i) := by intro z; rcases z with z | z <;> omega
  refine pk_eq (K i) 21 (fun h21 => ?_) (fun h21 => ?_)
  · obtain ⟨w1, w2, w3⟩ := v4 h21
    have := H _ _ (q_chk_e h21 hc)
    rw [qh_e h21, qo_e h21] at this
    have ht : qp_tk (K i) = 1 := by rw [h21]; rfl
    have hg : qp_gv (K i) = true := qp_gv_t (by omega)
    unfold wX_follow_62
    rw [ht]
    try simp (disch := omega) only [qa_m8, qa_m64, qa_m512, qa_a384, qa_a64, nI_add, nI_1, nI_clamp, vp_in_nI, true_and, forall_eq, pk_sub]
    rw [qa_s1 (by omega)]
    refine qx_givesRow (K i) (by omega) ?_
    try simp (disch := omega) only [qa_m8, qa_m64, qa_m512, qa_a384, qa_a64, nI_add, nI_1, nI_clamp, vp_in_nI, true_and, forall_eq, qp_b_nar]
    rw [hg, show qh K i - 1 + 1 = qh K i from by omega]
    exact this
  · have w1 := (v5 h21).1
    rw [qh_s hb h21] at h6'
    have := H _ _ (q_chk_s hb h21 hc)
    rw [qh_s hb h21, qo_s hb h21] at this
    unfold wX_follow_62
    try simp (disch := omega) only [qa_m8, qa_m64, qa_m512, qa_a384, qa_a64, nI_add, nI_1, nI_clamp, vp_in_nI, true_and, forall_eq, pk_sub]
    refine qx_givesRow (K i) (by omega) ?_
    try simp (disch := omega) only [qa_m8, qa_m64, qa_m512, qa_a384, qa_a64, nI_add, nI_1, nI_clamp, vp_in_nI, true_and, forall_eq, qp_b_nar]
    exact this
theorem qx_floor {post : Int32 → Prop} (ho : qo K i ≤ 2) (hc : q_Chk K i a_row a_begun) (H : post (nI (qbase K i))) : wpX_floor post (f_size, nI (qh K i), nI (qo K i), f_depth, f_level, f_known, f_resultSort, f_resultSize, a_inputSize, a_inputs, a_kind, a_arg, a_row, a_begun, a_levelOf, a_head, a_data, a_lanes, a_element, a_outside, a_blockKind, a_results) := by
  unfold wpX_floor
  try dsimp only
  unfold qbase at H
  refine pk_eq (qo K i) 0 (fun z => ?_) (fun z => ?_)
  · rw [if_pos z] at H; exact H
  · rw [if_neg z] at H
    try simp (disch := omega) only [qa_m8, qa_m64, qa_m512, qa_a384, qa_a64, nI_add, nI_1, nI_clamp, vp_in_nI, true_and, forall_eq, qa_s1, hc.2 (qo K i - 1) (by omega)]
    exact H
/-- token kind k finds what it takes -/
def q_ok (K : Nat → Nat) (n k : Nat) : Prop := (k = 21 → 0 < qo K n ∧ qh K n = qf K n (qo K n - 1) + 1 ∧ qw K n (qh K n - 1) = false)
  ∧ (k ≠ 21 → qbase K n + qp_tk k ≤ qh K n ∧ ∀ j, j < qp_tk k → qw K n (qh K n - qp_tk k + j) = qp_wr k j)
theorem qx_stands {post : Int32 → Prop} (k : Nat) (hk : k < 22) (I1 : q_I1 K i) (hc : q_Chk K i a_row a_begun) (H1 : q_ok K i k → post 1) (H0 : ¬ q_ok K i k → post 0) :
    wpX_stands post (f_size, nI (qh K i), nI (qo K i), f_depth, f_level, f_known, f_resultSort, f_resultSize, a_inputSize, a_inputs, a_kind, a_arg, a_row, a_begun, a_levelOf, a_head, a_data, a_lanes, a_element, a_outside, a_blockKind, a_results) (nI k) (nI (qp_tk k)) := by
  have h6 := I1.1
  have ho2 := I1.2.1
  have ht3 := qp_tk_le k
  unfold wpX_stands
  refine qx_floor ho2 hc ?_
  refine pk_eq k 21 (fun h21 => ?_) (fun h21 => ?_)
  · refine pk_le (qo K i) 0 (fun z => H0 (fun w => by have := (w.1 h21).1; omega)) (fun z => ?_)
    have hbase : qbase K i = qf K i (qo K i - 1) := by unfold qbase; rw [if_neg (by omega)]
    try simp (disch := omega) only [qa_m8, qa_m64, qa_m512, qa_a384, qa_a64, nI_add, nI_1, nI_clamp, vp_in_nI, true_and, forall_eq]
    refine pk_eq (qh K i) (qbase K i + 1) (fun w => ?_) (fun w => H0 (fun y => w (by rw [hbase]; exact (y.1 h21).2.1))) rfl rfl (by omega) ?_
    · try simp (disch := omega) only [qa_m8, qa_m64, qa_m512, qa_a384, qa_a64, nI_add, nI_1, nI_clamp, vp_in_nI, true_and, forall_eq, qa_s1, hc.1 (qh K i - 1) (by omega)]
      refine br_c (fun g => ?_) (fun g => ?_)
      · exact H1 ⟨fun _ => ⟨z, by rw [← hbase]; exact w, qp_b_0.mp g⟩, fun y => absurd h21 y⟩
      · exact H0 (fun y => g (qp_b_0.mpr (y.1 h21).2.2))
    · have : qbase K i ≤ qh K i := by
        rw [hbase]; exact I1.2.2.1 _ (by omega)
      omega
  · have hbl : qbase K i ≤ qh K i := by
      unfold qbase
      split
      · omega
      · exact I1.2.2.1 _ (by omega)
    by_cases hle : qbase K i + qp_tk k ≤ qh K i
    · rw [pk_sub (by omega)]
      refine br_t (qa_le (by omega)) ?_
      refine loop_0 (fun n x (_ : Unit) => wX_stands_63 post (nI k) (nI (qp_tk k)) f_size (nI (qh K i)) (nI (qo K i)) f_depth f_level f_known f_resultSort f_resultSize a_inputSize a_inputs a_kind a_arg a_row a_begun a_levelOf a_head a_data a_lanes a_element a_outside a_blockKind a_results n (nI x)) (fun x _ => ∀ j, j < x → qw K i (qh K i - qp_tk k + j) = qp_wr k j) (qp_tk k) () (fun j hj => absurd hj (Nat.not_lt_zero j)) ?_ ?_
      · intro n _ h
        exact br_t (qa_le (Nat.le_refl _)) (H1 ⟨fun z => absurd z h21, fun _ => ⟨hle, h⟩⟩)
      · intro n x _ hx h Kc
        refine br_f (qa_nle hx) ?_
        refine qx_takesRow k x (by omega) (by omega) ?_
        try simp (disch := omega) only [qa_m8, qa_m64, qa_m512, qa_a384, qa_a64, nI_add, nI_1, nI_clamp, vp_in_nI, true_and, forall_eq, pk_sub, hc.1 (qh K i - qp_tk k + x) (by omega)]
        refine br_c (fun g => Kc () (fun j hj => ?_)) (fun g => H0 (fun w => g (qp_b_inj.mpr ((w.2 h21).2 x hx))))
        by_cases z : j = x
        · rw [z]; exact qp_b_inj.mp g
        · exact h j (by omega)
    · refine br_f ?_ (H0 (fun w => hle (w.2 h21).1))
      by_cases z : qp_tk k ≤ qh K i
      · rw [pk_sub z]
        exact qa_nle (by omega)
      · intro w
        have neg := pk_sneg (a := qh K i) (b := qp_tk k) (by omega) (by omega)
        have h0 : (0 : Int32) ≤ nI (qbase K i) := nI_pos' (by omega)
        exact Int32.not_le.mpr neg (Int32.le_trans h0 w)
end
section
variable {g_count g_height g_open g_top g_depth : Int32} {b_sizes b_inputs b_kinds b_args b_rowAt b_floor b_lengths b_values b_begins b_many b_rows b_element b_outs b_out : Nat → Int32}
variable {K : Nat → Nat} {A : Nat → Int32} {n : Nat}
theorem qy_givesRow {post : Int32 → Prop} (k : Nat) (hk : k < 22) (H : post (qp_b (qp_gv k))) : wpY_givesRow post (g_count, g_height, g_open, g_top, g_depth, b_sizes, b_inputs, b_kinds, b_args, b_rowAt, b_floor, b_lengths, b_values, b_begins, b_many, b_rows, b_element, b_outs, b_out) (nI k) := by
  have t1 : qp_gv k = true → post 1 := fun e => by rw [e] at H; exact H
  have t0 : qp_gv k = false → post 0 := fun e => by rw [e] at H; exact H
  unfold wpY_givesRow
  refine pk_eq k 1 (fun z => t1 (by rw [z]; rfl)) (fun z => ?_)
  exact pk_lt k 14 (fun w => t0 (qp_gv_f z w)) (fun w => t1 (qp_gv_t w))
theorem qy_check {post : SY → Prop} (hn : n ≤ 40) (V : ∀ j, j < n → qv K A j) (hp : ∀ j, j < n → b_kinds j = nI (K j))
    (H : ∀ rw fl : Nat → Int32, q_Chk K n rw fl → post (nI n, nI (qh K n), nI (qo K n), g_top, g_depth, b_sizes, b_inputs, b_kinds, b_args, rw, fl, b_lengths, b_values, b_begins, b_many, b_rows, b_element, b_outs, b_out)) :
    wpY_check post (nI n, g_height, g_open, g_top, g_depth, b_sizes, b_inputs, b_kinds, b_args, b_rowAt, b_floor, b_lengths, b_values, b_begins, b_many, b_rows, b_element, b_outs, b_out) := by
  have key : ∀ (m i : Nat) (rw fl : Nat → Int32), i + m = n → q_Chk K i rw fl → wY_check_12 post (nI n) g_top g_depth (m + 1) (nI i) (nI (qh K i)) (nI (qo K i)) b_sizes b_inputs b_kinds b_args rw fl b_lengths b_values b_begins b_many b_rows b_element b_outs b_out := by
    intro m
    induction m with
    | zero =>
      intro i rw fl hm hc
      have : i = n := by omega
      subst this
      exact br_t (qa_le (Nat.le_refl _)) (H rw fl hc)
    | succ m ih =>
      intro i rw fl hm hc
      have I1 := q_i1 (K := K) (A := A) i (fun j hj => V j (by omega))
      have I1' := q_i1 (K := K) (A := A) (i + 1) (fun j hj => V j (by omega))
      obtain ⟨v1, v2, v3, v4, v5, v6, v7⟩ := V i (by omega)
      clear v2 v3
      have h6 := I1.1
      have ho2 := I1.2.1
      have h6' := I1'.1
      refine br_f (qa_nle (by omega)) ?_
      try simp (disch := omega) only [qa_m8, qa_m64, qa_m512, qa_a384, qa_a64, nI_add, nI_1, nI_clamp, vp_in_nI, true_and, forall_eq, hp i (by omega)]
      by_cases h21 : K i = 21
      · obtain ⟨w1, w2, w3⟩ := v4 h21
        have nx := ih (i + 1) _ _ (by omega) (q_chk_e h21 hc)
        rw [qh_e h21, qo_e h21] at nx
        rw [h21]
        refine qy_takesE ?_
        rw [Int32.sub_zero]
        refine br_f (by decide) (br_f (by decide) (br_t (by rfl) ?_))
        try simp (disch := omega) only [qa_m8, qa_m64, qa_m512, qa_a384, qa_a64, nI_add, nI_1, nI_clamp, vp_in_nI, true_and, forall_eq, qa_s1]
        exact nx
      · refine qy_takes (K i) (by omega) ?_
        have w1 := (v5 h21).1
        rw [pk_sub (by omega)]
        have blk : qp_blk (K i) → wY_check_53 post (wY_check_12 post (nI n) g_top g_depth (m + 1)) (nI i) (nI n) (nI (qh K i - qp_tk (K i))) (nI (qo K i)) g_top g_depth b_sizes b_inputs b_kinds b_args rw fl b_lengths b_values b_begins b_many b_rows b_element b_outs b_out := by
          intro hk
          have ht : qp_tk (K i) = 1 := by rcases hk with hk | hk <;> rw [hk] <;> rfl
          have w7 := v7 hk
          have nx := ih (i + 1) _ _ (by omega) (q_chk_b hk hc)
          rw [qh_b hk, qo_b hk] at nx
          unfold wY_check_53
          try simp (disch := omega) only [qa_m8, qa_m64, qa_m512, qa_a384, qa_a64, nI_add, nI_1, nI_clamp, vp_in_nI, true_and, forall_eq, ht]
          exact nx
        refine pk_eq (K i) 19 (fun z => blk (Or.inl z)) (fun n19 => ?_)
        refine pk_eq (K i) 20 (fun z => blk (Or.inr z)) (fun n20 => ?_)
        have hb : ¬ qp_blk (K i) := by intro z; rcases z with z | z <;> omega
        refine pk_eq (K i) 21 (fun z => absurd z h21) (fun _ => ?_)
        have nx := ih (i + 1) _ _ (by omega) (q_chk_s hb h21 hc)
        rw [qh_s hb h21] at h6'
        rw [qh_s hb h21, qo_s hb h21] at nx
        refine qy_givesRow (K i) v1 ?_
        try simp (disch := omega) only [qa_m8, qa_m64, qa_m512, qa_a384, qa_a64, nI_add, nI_1, nI_clamp, vp_in_nI, true_and, forall_eq, qp_b_nar]
        exact nx
  unfold wpY_check
  exact ⟨n + 1, key n 0 b_rowAt b_floor (by omega) ⟨fun e he => absurd he (Nat.not_lt_zero e), fun b hb => absurd hb (Nat.not_lt_zero b)⟩⟩
theorem qy_isWhole {post : Int32 → SY → Prop} (hn : n ≤ 40) (V : ∀ j, j < n → qv K A j) (hp : ∀ j, j < n → b_kinds j = nI (K j))
    (H1 : (qo K n = 0 ∧ qh K n = 1) → ∀ rw fl : Nat → Int32, q_Chk K n rw fl → post 1 (nI n, nI (qh K n), nI (qo K n), g_top, g_depth, b_sizes, b_inputs, b_kinds, b_args, rw, fl, b_lengths, b_values, b_begins, b_many, b_rows, b_element, b_outs, b_out))
    (H0 : ¬ (qo K n = 0 ∧ qh K n = 1) → ∀ rw fl : Nat → Int32, q_Chk K n rw fl → post 0 (nI n, nI (qh K n), nI (qo K n), g_top, g_depth, b_sizes, b_inputs, b_kinds, b_args, rw, fl, b_lengths, b_values, b_begins, b_many, b_rows, b_element, b_outs, b_out)) :
    wpY_isWhole post (nI n, g_height, g_open, g_top, g_depth, b_sizes, b_inputs, b_kinds, b_args, b_rowAt, b_floor, b_lengths, b_values, b_begins, b_many, b_rows, b_element, b_outs, b_out) := by
  have I1 := q_i1 (K := K) (A := A) n V
  have h6 := I1.1
  have ho2 := I1.2.1
  unfold wpY_isWhole
  refine qy_check hn V hp (fun rw fl hc => ?_)
  try dsimp only
  refine pk_eq (qo K n) 0 (fun z => ?_) (fun z => H0 (fun w => z w.1) rw fl hc)
  exact pk_eq (qh K n) 1 (fun w => H1 ⟨z, w⟩ rw fl hc) (fun w => H0 (fun y => w y.2) rw fl hc)
theorem qy_wantsRow {post : Int32 → Prop} (k j : Nat) (hk : k < 22) (hj : j < 3) (H : post (qp_b (qp_wr k j))) : wpY_wantsRow post (g_count, g_height, g_open, g_top, g_depth, b_sizes, b_inputs, b_kinds, b_args, b_rowAt, b_floor, b_lengths, b_values, b_begins, b_many, b_rows, b_element, b_outs, b_out) (nI k) (nI j) := by
  have t1 : k ≠ 13 → 9 < k → k ≠ 14 → post 1 := fun a b c => by rw [qp_wr_t a b c] at H; exact H
  have t0 : (k ≤ 9 ∨ k = 14) → post 0 := fun a => by rw [qp_wr_f a] at H; exact H
  unfold wpY_wantsRow
  refine pk_eq k 13 (fun h => ?_) (fun n13 => ?_)
  · subst h
    refine pk_eq j 0 (fun h => ?_) (fun h => ?_)
    · subst h; exact H
    · have : qp_b (qp_wr 13 j) = 0 := by unfold qp_wr; rw [if_pos rfl, decide_eq_false h]; rfl
      rw [this] at H; exact H
  refine pk_le k 9 (fun h => t0 (by omega)) (fun h9 => ?_)
  exact pk_eq k 14 (fun h => t0 (by omega)) (fun n14 => t1 n13 h9 n14)
theorem qy_isFound {post : Int32 → Prop} (k : Nat) (hk : k < 22) (I1 : q_I1 K n) (hc : q_Chk K n b_rowAt b_floor) (H1 : q_ok K n k → post 1) (H0 : ¬ q_ok K n k → post 0) :
    wpY_isFound post (g_count, nI (qh K n), nI (qo K n), g_top, g_depth, b_sizes, b_inputs, b_kinds, b_args, b_rowAt, b_floor, b_lengths, b_values, b_begins, b_many, b_rows, b_element, b_outs, b_out) (nI k) := by
  have h6 := I1.1
  have ho2 := I1.2.1
  have ht3 := qp_tk_le k
  have hbl : qbase K n ≤ qh K n := by
    unfold qbase
    split
    · omega
    · exact I1.2.2.1 _ (by omega)
  have main : wY_isFound_22 post (nI k) (nI (qbase K n)) g_count (nI (qh K n)) (nI (qo K n)) g_top g_depth b_sizes b_inputs b_kinds b_args b_rowAt b_floor b_lengths b_values b_begins b_many b_rows b_element b_outs b_out := by
    unfold wY_isFound_22
    refine pk_eq k 21 (fun h21 => ?_) (fun h21 => ?_)
    · refine pk_le (qo K n) 0 (fun z => H0 (fun w => by have := (w.1 h21).1; omega)) (fun z => ?_)
      have hbase : qbase K n = qf K n (qo K n - 1) := by unfold qbase; rw [if_neg (by omega)]
      try simp (disch := omega) only [qa_m8, qa_m64, qa_m512, qa_a384, qa_a64, nI_add, nI_1, nI_clamp, vp_in_nI, true_and, forall_eq]
      refine pk_eq (qh K n) (qbase K n + 1) (fun w => ?_) (fun w => H0 (fun y => w (by rw [hbase]; exact (y.1 h21).2.1)))
      · try simp (disch := omega) only [qa_m8, qa_m64, qa_m512, qa_a384, qa_a64, nI_add, nI_1, nI_clamp, vp_in_nI, true_and, forall_eq, qa_s1, hc.1 (qh K n - 1) (by omega)]
        refine br_c (fun g => ?_) (fun g => ?_)
        · exact H1 ⟨fun _ => ⟨z, by rw [← hbase]; exact w, qp_b_0.mp g⟩, fun y => absurd h21 y⟩
        · exact H0 (fun y => g (qp_b_0.mpr (y.1 h21).2.2))
    · refine qy_takes k (by omega) ?_
      rw [pk_sub hbl]
      refine pk_le (qp_tk k) (qh K n - qbase K n) (fun hle => ?_) (fun hle => H0 (fun w => by have := (w.2 h21).1; omega))
      have rest : ∀ (m x : Nat), x + m = qp_tk k → (¬ q_ok K n k) → wY_isFound_90 post (nI k) (nI (qp_tk k)) g_count (nI (qh K n)) (nI (qo K n)) g_top g_depth b_sizes b_inputs b_kinds b_args b_rowAt b_floor b_lengths b_values b_begins b_many b_rows b_element b_outs b_out (m + 1) 0 (nI x) := by
        intro m
        induction m with
        | zero =>
          intro x hx hno
          refine br_t (qa_le (by omega)) ⟨narrow_b0, H0 hno⟩
        | succ m ih =>
          intro x hx hno
          refine br_f (qa_nle (by omega)) (br_t rfl (nm_r (nI_1 x) ?_))
          exact ih (x + 1) (by omega) hno
      have key : ∀ (m x : Nat), x + m = qp_tk k → (∀ j, j < x → qw K n (qh K n - qp_tk k + j) = qp_wr k j) → wY_isFound_90 post (nI k) (nI (qp_tk k)) g_count (nI (qh K n)) (nI (qo K n)) g_top g_depth b_sizes b_inputs b_kinds b_args b_rowAt b_floor b_lengths b_values b_begins b_many b_rows b_element b_outs b_out (m + 1) 1 (nI x) := by
        intro m
        induction m with
        | zero =>
          intro x hx h
          refine br_t (qa_le (by omega)) ⟨narrow_b1, H1 ⟨fun z => absurd z h21, fun _ => ⟨by omega, fun j hj => h j (by omega)⟩⟩⟩
        | succ m ih =>
          intro x hx h
          refine br_f (qa_nle (by omega)) (br_f (by decide) ?_)
          try simp (disch := omega) only [qa_m8, qa_m64, qa_m512, qa_a384, qa_a64, nI_add, nI_1, nI_clamp, vp_in_nI, true_and, forall_eq, pk_sub, hc.1 (qh K n - qp_tk k + x) (by omega)]
          refine qy_wantsRow k x hk (by omega) ?_
          refine br_c (fun g => ih (x + 1) (by omega) (fun j hj => ?_)) (fun g => rest m (x + 1) (by omega) (fun w => g (qp_b_inj.mpr ((w.2 h21).2 x (by omega)))))
          by_cases z : j = x
          · rw [z]; exact qp_b_inj.mp g
          · exact h j (by omega)
      exact ⟨qp_tk k + 1, key (qp_tk k) 0 (by omega) (fun j hj => absurd hj (Nat.not_lt_zero j))⟩
  unfold wpY_isFound
  try dsimp only
  refine pk_eq (qo K n) 0 (fun z => ?_) (fun z => ?_)
  · have hbase : qbase K n = 0 := by unfold qbase; rw [if_pos z]
    rw [hbase] at main
    exact main
  · have hbase : qbase K n = qf K n (qo K n - 1) := by unfold qbase; rw [if_neg z]
    try simp (disch := omega) only [qa_m8, qa_m64, qa_m512, qa_a384, qa_a64, nI_add, nI_1, nI_clamp, vp_in_nI, true_and, forall_eq, qa_s1, hc.2 (qo K n - 1) (by omega)]
    rw [← hbase]
    exact main
end
end
section
/-! both: a token offered -/
def q_dc (c1 c2 c3 c4 c5 : Prop) (r : Int32) : Prop :=
  (c1 ∧ r = -1) ∨ (¬ c1 ∧ c2 ∧ r = -2) ∨ (¬ c1 ∧ ¬ c2 ∧ c3 ∧ r = -3) ∨ (¬ c1 ∧ ¬ c2 ∧ ¬ c3 ∧ c4 ∧ r = -4) ∨ (¬ c1 ∧ ¬ c2 ∧ ¬ c3 ∧ ¬ c4 ∧ c5 ∧ r = -5) ∨ (¬ c1 ∧ ¬ c2 ∧ ¬ c3 ∧ ¬ c4 ∧ ¬ c5 ∧ r = 0)
theorem q_dc_u {c1 c2 c3 c4 c5 : Prop} {r r' : Int32} (h : q_dc c1 c2 c3 c4 c5 r) (h' : q_dc c1 c2 c3 c4 c5 r') : r' = r := by
  unfold q_dc at h h'
  rcases h with ⟨a1, e⟩ | ⟨a1, a2, e⟩ | ⟨a1, a2, a3, e⟩ | ⟨a1, a2, a3, a4, e⟩ | ⟨a1, a2, a3, a4, a5, e⟩ | ⟨a1, a2, a3, a4, a5, e⟩ <;>
  rcases h' with ⟨b1, e'⟩ | ⟨b1, b2, e'⟩ | ⟨b1, b2, b3, e'⟩ | ⟨b1, b2, b3, b4, e'⟩ | ⟨b1, b2, b3, b4, b5, e'⟩ | ⟨b1, b2, b3, b4, b5, e'⟩ <;>
  first | exact e'.trans e.symm | exact absurd a1 b1 | exact absurd b1 a1 | exact absurd a2 b2 | exact absurd b2 a2 | exact absurd a3 b3 | exact absurd b3 a3 | exact absurd a4 b4 | exact absurd b4 a4 | exact absurd a5 b5 | exact absurd b5 a5
def q_c1 (k : Nat) (a : Int32) : Prop := (k = 0 ∧ (a < -99 ∨ 99 < a)) ∨ (k = 1 ∧ (a < 0 ∨ nI 3 ≤ a))
def q_c3 (K : Nat → Nat) (n k : Nat) (a : Int32) : Prop := k = 2 ∧ (a < 0 ∨ ¬ a < nI (qo K n))
def q_c5 (K : Nat → Nat) (n k : Nat) : Prop := (k < 3 ∧ qh K n = 6) ∨ (qp_blk k ∧ qo K n = 2)
def q_Dec (K : Nat → Nat) (n k : Nat) (a r : Int32) : Prop := q_dc (q_c1 k a) (n = 40) (q_c3 K n k a) (¬ q_ok K n k) (q_c5 K n k) r
def qK (K : Nat → Nat) (n k : Nat) : Nat → Nat := fun j => if j = n then k else K j
theorem qK_lt {K : Nat → Nat} {n k j : Nat} (h : j < n) : K j = qK K n k j := (if_neg (by omega)).symm
theorem qK_n {K : Nat → Nat} {n k : Nat} : qK K n k n = k := if_pos rfl
theorem q_dec_v {K : Nat → Nat} {A : Nat → Int32} {n k : Nat} {a : Int32} (hk : k < 22) (I1 : q_I1 K n) (V : ∀ j, j < n → qv K A j) (h : q_Dec K n k a 0) : n ≠ 40 ∧ ∀ j, j ≤ n → qv (qK K n k) (upd A n a) j := by
  unfold q_Dec q_dc at h
  have h' : ¬ q_c1 k a ∧ ¬ n = 40 ∧ ¬ q_c3 K n k a ∧ ¬ ¬ q_ok K n k ∧ ¬ q_c5 K n k := by
    rcases h with ⟨_, e⟩ | ⟨_, _, e⟩ | ⟨_, _, _, e⟩ | ⟨_, _, _, _, e⟩ | ⟨_, _, _, _, _, e⟩ | ⟨a1, a2, a3, a4, a5, e⟩
    · exact absurd e (by decide)
    · exact absurd e (by decide)
    · exact absurd e (by decide)
    · exact absurd e (by decide)
    · exact absurd e (by decide)
    · exact ⟨a1, a2, a3, a4, a5⟩
  obtain ⟨d1, d2, d3, d4, d5⟩ := h'
  have d4 : q_ok K n k := Classical.not_not.mp d4
  have h6 := I1.1
  have ho2 := I1.2.1
  refine ⟨d2, fun j hj => ?_⟩
  by_cases z : j < n
  · refine qv_congr (K := K) (A := A) (fun j' hj' => qK_lt (by omega)) ?_ (V j z)
    rw [pk_un (by omega)]
  · have z' : j = n := by omega
    subst z'
    obtain ⟨g1, g2, g3, g4, g5⟩ := q_congr (K := K) (K' := qK K j k) j (fun j' hj' => qK_lt hj')
    unfold qv qbase
    rw [← g1, ← g2, ← g3, ← g4, qK_n, pk_us]
    unfold q_ok qbase at d4
    refine ⟨hk, fun k1 => ?_, fun k2 => ?_, d4.1, d4.2, fun k3 => ?_, fun kb => ?_⟩
    · rcases pk_ix a (n := 3) (by omega) with w | w | ⟨b, hb, w⟩
      · exact absurd (Or.inr ⟨k1, Or.inl w⟩) d1
      · exact absurd (Or.inr ⟨k1, Or.inr w⟩) d1
      · exact ⟨b, hb, w⟩
    · have w0 : ¬ a < 0 := fun w => d3 ⟨k2, Or.inl w⟩
      have w1 : a < nI (qo K j) := Classical.not_not.mp (fun w => d3 ⟨k2, Or.inr w⟩)
      obtain ⟨b, hb, w⟩ := nI_of w0
      rw [w, nI_ltI hb (by omega)] at w1
      exact ⟨b, w1, w⟩
    · have : ¬ qh K j = 6 := fun w => d5 (Or.inl ⟨k3, w⟩)
      omega
    · have : ¬ qo K j = 2 := fun w => d5 (Or.inr ⟨kb, w⟩)
      omega
section
variable {f_size f_height f_open f_depth f_level f_known f_resultSort f_resultSize : Int32} {a_inputSize a_inputs a_kind a_arg a_row a_begun a_levelOf a_head a_data a_lanes a_element a_outside a_blockKind a_results : Nat → Int32}
variable {K : Nat → Nat} {A : Nat → Int32} {n : Nat}
theorem qx_token {post : Int32 → SX → Prop} (k : Nat) (a : Int32) (hk : k < 22) (hn : n ≤ 40) (V : ∀ j, j < n → qv K A j) (hc : q_Chk K n a_row a_begun)
    (H : ∀ r, q_Dec K n k a r → r ≠ 0 → post r (nI n, nI (qh K n), nI (qo K n), f_depth, f_level, f_known, f_resultSort, f_resultSize, a_inputSize, a_inputs, a_kind, a_arg, a_row, a_begun, a_levelOf, a_head, a_data, a_lanes, a_element, a_outside, a_blockKind, a_results))
    (H0 : q_Dec K n k a 0 → ∀ rw fl : Nat → Int32, q_Chk (qK K n k) (n + 1) rw fl → post (nI (n + 1)) (nI (n + 1), nI (qh (qK K n k) (n + 1)), nI (qo (qK K n k) (n + 1)), f_depth, f_level, 0, f_resultSort, f_resultSize, a_inputSize, a_inputs, upd a_kind n (nI k), upd a_arg n a, rw, fl, a_levelOf, a_head, a_data, a_lanes, a_element, a_outside, a_blockKind, a_results)) :
    wpX_token post (nI n, nI (qh K n), nI (qo K n), f_depth, f_level, f_known, f_resultSort, f_resultSize, a_inputSize, a_inputs, a_kind, a_arg, a_row, a_begun, a_levelOf, a_head, a_data, a_lanes, a_element, a_outside, a_blockKind, a_results) (nI k) a := by
  have I1 := q_i1 (K := K) (A := A) n V
  have h6 := I1.1
  have ho2 := I1.2.1
  unfold wpX_token
  try dsimp only
  refine br_f (nI_pos (by omega)) ?_
  refine pk_lt 21 k (fun z => absurd z (by omega)) (fun _ => ?_)
  have bad1 : q_c1 k a → post (-1) (nI n, nI (qh K n), nI (qo K n), f_depth, f_level, f_known, f_resultSort, f_resultSize, a_inputSize, a_inputs, a_kind, a_arg, a_row, a_begun, a_levelOf, a_head, a_data, a_lanes, a_element, a_outside, a_blockKind, a_results) := fun c => H (-1) (Or.inl ⟨c, rfl⟩) (by decide)
  have good : ¬ q_c1 k a → ((nI n < 40 → (((nI k = 2 → (((a < 0 → (post (-3) (nI n, nI (qh K n), nI (qo K n), f_depth, f_level, f_known, f_resultSort, f_resultSize, a_inputSize, a_inputs, a_kind, a_arg, a_row, a_begun, a_levelOf, a_head, a_data, a_lanes, a_element, a_outside, a_blockKind, a_results))) ∧ (¬ a < 0 → (((a < nI (qo K n) → (wX_token_52 post (nI k) a (nI n) (nI (qh K n)) (nI (qo K n)) f_depth f_level f_known f_resultSort f_resultSize a_inputSize a_inputs a_kind a_arg a_row a_begun a_levelOf a_head a_data a_lanes a_element a_outside a_blockKind a_results)) ∧ (¬ a < nI (qo K n) → (post (-3) (nI n, nI (qh K n), nI (qo K n), f_depth, f_level, f_known, f_resultSort, f_resultSize, a_inputSize, a_inputs, a_kind, a_arg, a_row, a_begun, a_levelOf, a_head, a_data, a_lanes, a_element, a_outside, a_blockKind, a_results))))))))) ∧ (¬ nI k = 2 → (wX_token_52 post (nI k) a (nI n) (nI (qh K n)) (nI (qo K n)) f_depth f_level f_known f_resultSort f_resultSize a_inputSize a_inputs a_kind a_arg a_row a_begun a_levelOf a_head a_data a_lanes a_element a_outside a_blockKind a_results))))) ∧ (¬ nI n < 40 → (post (-2) (nI n, nI (qh K n), nI (qo K n), f_depth, f_level, f_known, f_resultSort, f_resultSize, a_inputSize, a_inputs, a_kind, a_arg, a_row, a_begun, a_levelOf, a_head, a_data, a_lanes, a_element, a_outside, a_blockKind, a_results)))) := by
    intro n1
    refine pk_lt n 40 (fun n40 => ?_) (fun z => H (-2) (Or.inr (Or.inl ⟨n1, by omega, rfl⟩)) (by decide))
    have n2 : ¬ n = 40 := by omega
    have main : ¬ q_c3 K n k a → wX_token_52 post (nI k) a (nI n) (nI (qh K n)) (nI (qo K n)) f_depth f_level f_known f_resultSort f_resultSize a_inputSize a_inputs a_kind a_arg a_row a_begun a_levelOf a_head a_data a_lanes a_element a_outside a_blockKind a_results := by
      intro n3
      unfold wX_token_52
      refine qx_taken k hk ?_
      refine qx_stands k hk I1 hc (fun ok => ?_) (fun nok => ?_)
      · refine br_f (by decide) ?_
        have n4 : ¬ ¬ q_ok K n k := fun w => w ok
        have bad5 : q_c5 K n k → post (-5) (nI n, nI (qh K n), nI (qo K n), f_depth, f_level, f_known, f_resultSort, f_resultSize, a_inputSize, a_inputs, a_kind, a_arg, a_row, a_begun, a_levelOf, a_head, a_data, a_lanes, a_element, a_outside, a_blockKind, a_results) := fun c => H (-5) (Or.inr (Or.inr (Or.inr (Or.inr (Or.inl ⟨n1, n2, n3, n4, c, rfl⟩))))) (by decide)
        have store : ¬ q_c5 K n k → wX_token_109 post (nI k) a (nI (qp_tk k)) (nI n) (nI (qh K n)) (nI (qo K n)) f_depth f_level f_known f_resultSort f_resultSize a_inputSize a_inputs a_kind a_arg a_row a_begun a_levelOf a_head a_data a_lanes a_element a_outside a_blockKind a_results := by
          intro n5
          have dec : q_Dec K n k a 0 := Or.inr (Or.inr (Or.inr (Or.inr (Or.inr ⟨n1, n2, n3, n4, n5, rfl⟩))))
          obtain ⟨_, V'⟩ := q_dec_v hk I1 V dec
          obtain ⟨g1, g2, g3, g4, g5⟩ := q_congr (K := K) (K' := qK K n k) n (fun j' hj' => qK_lt hj')
          unfold wX_token_109
          try simp (disch := omega) only [qa_m8, qa_m64, qa_m512, qa_a384, qa_a64, nI_add, nI_1, nI_clamp, vp_in_nI, true_and, forall_eq]
          have hc' : q_Chk (qK K n k) n a_row a_begun := by
            unfold q_Chk at hc ⊢
            rw [g1, g2, g3, g4] at hc
            exact hc
          have := qx_follow (f_size := nI (n + 1)) (f_depth := f_depth) (f_level := f_level) (f_known := f_known) (f_resultSort := f_resultSort) (f_resultSize := f_resultSize) (a_inputSize := a_inputSize) (a_inputs := a_inputs) (a_kind := upd a_kind n (nI k)) (a_arg := upd a_arg n a) (a_row := a_row) (a_begun := a_begun) (a_levelOf := a_levelOf) (a_head := a_head) (a_data := a_data) (a_lanes := a_lanes) (a_element := a_element) (a_outside := a_outside) (a_blockKind := a_blockKind) (a_results := a_results)
            (post := fun u => match u with | (f_size_4, f_height_4, f_open_4, f_depth_4, f_level_4, f_known_4, f_resultSort_4, f_resultSize_4, a_inputSize_4, a_inputs_4, a_kind_4, a_arg_4, a_row_4, a_begun_4, a_levelOf_4, a_head_4, a_data_4, a_lanes_4, a_element_4, a_outside_4, a_blockKind_4, a_results_4) => post f_size_4 (f_size_4, f_height_4, f_open_4, f_depth_4, f_level_4, 0, f_resultSort_4, f_resultSize_4, a_inputSize_4, a_inputs_4, a_kind_4, a_arg_4, a_row_4, a_begun_4, a_levelOf_4, a_head_4, a_data_4, a_lanes_4, a_element_4, a_outside_4, a_blockKind_4, a_results_4)) (K := qK K n k) (A := upd A n a) (i := n) V' hc' (fun rw fl h => H0 dec rw fl h)
          rw [qK_n, ← g1, ← g2] at this
          exact this
        have t86 : ¬ (k < 3 ∧ qh K n = 6) → wX_token_86 post (nI k) a (nI (qp_tk k)) (nI n) (nI (qh K n)) (nI (qo K n)) f_depth f_level f_known f_resultSort f_resultSize a_inputSize a_inputs a_kind a_arg a_row a_begun a_levelOf a_head a_data a_lanes a_element a_outside a_blockKind a_results := by
          intro n5a
          unfold wX_token_86
          have t98 : qp_blk k → wX_token_98 post (nI k) a (nI (qp_tk k)) (nI n) (nI (qh K n)) (nI (qo K n)) f_depth f_level f_known f_resultSort f_resultSize a_inputSize a_inputs a_kind a_arg a_row a_begun a_levelOf a_head a_data a_lanes a_element a_outside a_blockKind a_results := by
            intro kb
            unfold wX_token_98
            refine pk_lt (qo K n) 2 (fun z => store (fun w => ?_)) (fun z => bad5 (Or.inr ⟨kb, by omega⟩))
            rcases w with w | w
            · exact n5a w
            · exact absurd w.2 (by omega)
          refine pk_eq k 19 (fun z => t98 (Or.inl z)) (fun n19 => ?_)
          refine pk_eq k 20 (fun z => t98 (Or.inr z)) (fun n20 => store (fun w => ?_))
          rcases w with w | w
          · exact n5a w
          · exact absurd w.1 (by omega)
        refine pk_eq (qp_tk k) 0 (fun t0 => ?_) (fun t0 => ?_) rfl rfl (by have := qp_tk_le k; omega)
        · have k3 : k < 3 := by
            by_cases z : k < 3
            · exact z
            · have := qp_tk_0 (k := k) (by omega); omega
          refine pk_le 6 (qh K n) (fun z => bad5 (Or.inl ⟨k3, by omega⟩)) (fun z => t86 (fun w => by omega))
        · refine t86 (fun w => ?_)
          have := qp_tk_z w.1
          omega
      · refine br_t rfl ?_
        exact H (-4) (Or.inr (Or.inr (Or.inr (Or.inl ⟨n1, n2, n3, nok, rfl⟩)))) (by decide)
    have bad3 : q_c3 K n k a → post (-3) (nI n, nI (qh K n), nI (qo K n), f_depth, f_level, f_known, f_resultSort, f_resultSize, a_inputSize, a_inputs, a_kind, a_arg, a_row, a_begun, a_levelOf, a_head, a_data, a_lanes, a_element, a_outside, a_blockKind, a_results) := fun c => H (-3) (Or.inr (Or.inr (Or.inl ⟨n1, n2, c, rfl⟩))) (by decide)
    refine pk_eq k 2 (fun k2 => ?_) (fun k2 => main (fun w => k2 w.1))
    refine br_c (fun z => bad3 ⟨k2, Or.inl z⟩) (fun z => ?_)
    refine br_c (fun w => main (fun y => ?_)) (fun w => bad3 ⟨k2, Or.inr w⟩)
    rcases y.2 with y | y
    · exact z y
    · exact y w
  refine pk_eq k 0 (fun k0 => ?_) (fun k0 => ?_)
  · refine br_c (fun z => br_t rfl (bad1 (Or.inl ⟨k0, Or.inl z⟩))) (fun z => ?_)
    refine br_c (fun w => br_t rfl (bad1 (Or.inl ⟨k0, Or.inr w⟩))) (fun w => br_f (by decide) (good (fun y => ?_)))
    rcases y with ⟨_, y | y⟩ | ⟨y, _⟩
    · exact z y
    · exact w y
    · omega
  refine pk_eq k 1 (fun k1 => ?_) (fun k1 => br_f (by decide) (good (fun y => ?_)))
  · refine br_c (fun z => br_t rfl (bad1 (Or.inr ⟨k1, Or.inl z⟩))) (fun z => ?_)
    refine br_c (fun w => br_t rfl (bad1 (Or.inr ⟨k1, Or.inr w⟩))) (fun w => br_f (by decide) (good (fun y => ?_)))
    rcases y with ⟨y, _⟩ | ⟨_, y | y⟩
    · exact k0 y
    · exact z y
    · exact w y
  · rcases y with ⟨y, _⟩ | ⟨y, _⟩
    · exact k0 y
    · exact k1 y
end
section
variable {g_count g_height g_open g_top g_depth : Int32} {b_sizes b_inputs b_kinds b_args b_rowAt b_floor b_lengths b_values b_begins b_many b_rows b_element b_outs b_out : Nat → Int32}
variable {K : Nat → Nat} {A : Nat → Int32} {n : Nat}
theorem qy_token {post : Int32 → SY → Prop} (k : Nat) (a : Int32) (hk : k < 22) (hn : n ≤ 40) (V : ∀ j, j < n → qv K A j) (hp : ∀ j, j < n → b_kinds j = nI (K j))
    (H : ∀ (r : Int32) (he ope : Int32) (rw fl : Nat → Int32), q_Dec K n k a r → r ≠ 0 → post r (nI n, he, ope, g_top, g_depth, b_sizes, b_inputs, b_kinds, b_args, rw, fl, b_lengths, b_values, b_begins, b_many, b_rows, b_element, b_outs, b_out))
    (H0 : q_Dec K n k a 0 → ∀ (he ope : Int32) (rw fl : Nat → Int32), post (nI (n + 1)) (nI (n + 1), he, ope, g_top, g_depth, b_sizes, b_inputs, upd b_kinds n (nI k), upd b_args n a, rw, fl, b_lengths, b_values, b_begins, b_many, b_rows, b_element, b_outs, b_out)) :
    wpY_token post (nI n, g_height, g_open, g_top, g_depth, b_sizes, b_inputs, b_kinds, b_args, b_rowAt, b_floor, b_lengths, b_values, b_begins, b_many, b_rows, b_element, b_outs, b_out) (nI k) a := by
  have I1 := q_i1 (K := K) (A := A) n V
  have h6 := I1.1
  have ho2 := I1.2.1
  unfold wpY_token
  try dsimp only
  refine br_f (nI_pos (by omega)) ?_
  refine pk_lt 21 k (fun z => absurd z (by omega)) (fun _ => ?_)
  have bad1 : q_c1 k a → post (-1) (nI n, g_height, g_open, g_top, g_depth, b_sizes, b_inputs, b_kinds, b_args, b_rowAt, b_floor, b_lengths, b_values, b_begins, b_many, b_rows, b_element, b_outs, b_out) := fun c => H (-1) _ _ _ _ (Or.inl ⟨c, rfl⟩) (by decide)
  have good : ¬ q_c1 k a → wY_token_42 post (nI k) a (nI n) g_height g_open g_top g_depth b_sizes b_inputs b_kinds b_args b_rowAt b_floor b_lengths b_values b_begins b_many b_rows b_element b_outs b_out := by
    intro n1
    unfold wY_token_42
    refine pk_eq n 40 (fun z => H (-2) _ _ _ _ (Or.inr (Or.inl ⟨n1, z, rfl⟩)) (by decide)) (fun n2 => ?_)
    refine qy_check hn V hp (fun rw fl hc => ?_)
    try dsimp only
    have main : ¬ q_c3 K n k a → wY_token_78 post (nI k) a (nI n) (nI (qh K n)) (nI (qo K n)) g_top g_depth b_sizes b_inputs b_kinds b_args rw fl b_lengths b_values b_begins b_many b_rows b_element b_outs b_out := by
      intro n3
      unfold wY_token_78
      refine qy_isFound k hk I1 hc (fun ok => ?_) (fun nok => ?_)
      · refine br_f (by decide) ?_
        have n4 : ¬ ¬ q_ok K n k := fun w => w ok
        have bad5 : q_c5 K n k → post (-5) (nI n, nI (qh K n), nI (qo K n), g_top, g_depth, b_sizes, b_inputs, b_kinds, b_args, rw, fl, b_lengths, b_values, b_begins, b_many, b_rows, b_element, b_outs, b_out) := fun c => H (-5) _ _ _ _ (Or.inr (Or.inr (Or.inr (Or.inr (Or.inl ⟨n1, n2, n3, n4, c, rfl⟩))))) (by decide)
        have store : ¬ q_c5 K n k → wY_token_136 post (nI k) a (nI n) (nI (qh K n)) (nI (qo K n)) g_top g_depth b_sizes b_inputs b_kinds b_args rw fl b_lengths b_values b_begins b_many b_rows b_element b_outs b_out := by
          intro n5
          have dec : q_Dec K n k a 0 := Or.inr (Or.inr (Or.inr (Or.inr (Or.inr ⟨n1, n2, n3, n4, n5, rfl⟩))))
          unfold wY_token_136
          try simp (disch := omega) only [qa_m8, qa_m64, qa_m512, qa_a384, qa_a64, nI_add, nI_1, nI_clamp, vp_in_nI, true_and, forall_eq]
          exact H0 dec _ _ _ _
        have t106 : ∀ z0 : Int32, (qp_blk k ∧ z0 = 1) ∨ (¬ qp_blk k ∧ z0 = 0) → wY_token_106 post (nI k) a z0 (nI n) (nI (qh K n)) (nI (qo K n)) g_top g_depth b_sizes b_inputs b_kinds b_args rw fl b_lengths b_values b_begins b_many b_rows b_element b_outs b_out := by
          intro z0 hz
          unfold wY_token_106
          have t121 : ¬ (k < 3 ∧ qh K n = 6) → wY_token_121 post (nI k) a z0 (nI n) (nI (qh K n)) (nI (qo K n)) g_top g_depth b_sizes b_inputs b_kinds b_args rw fl b_lengths b_values b_begins b_many b_rows b_element b_outs b_out := by
            intro n5a
            unfold wY_token_121
            rcases hz with ⟨kb, hz⟩ | ⟨kb, hz⟩
            · subst hz
              refine br_f (by decide) ?_
              refine pk_eq (qo K n) 2 (fun z => bad5 (Or.inr ⟨kb, z⟩)) (fun z => store (fun w => ?_))
              rcases w with w | w
              · exact n5a w
              · exact z w.2
            · subst hz
              refine br_t rfl (store (fun w => ?_))
              rcases w with w | w
              · exact n5a w
              · exact kb w.1
          refine pk_le 3 k (fun z => t121 (fun w => by omega)) (fun z => ?_)
          exact pk_eq (qh K n) 6 (fun w => bad5 (Or.inl ⟨z, w⟩)) (fun w => t121 (fun y => w y.2))
        refine pk_eq k 19 (fun z => t106 1 (Or.inl ⟨Or.inl z, rfl⟩)) (fun n19 => ?_)
        refine pk_eq k 20 (fun z => t106 1 (Or.inl ⟨Or.inr z, rfl⟩)) (fun n20 => ?_)
        exact t106 0 (Or.inr ⟨fun w => by rcases w with w | w <;> omega, rfl⟩)
      · refine br_t rfl ?_
        exact H (-4) _ _ _ _ (Or.inr (Or.inr (Or.inr (Or.inl ⟨n1, n2, n3, nok, rfl⟩)))) (by decide)
    have bad3 : q_c3 K n k a → post (-3) (nI n, nI (qh K n), nI (qo K n), g_top, g_depth, b_sizes, b_inputs, b_kinds, b_args, rw, fl, b_lengths, b_values, b_begins, b_many, b_rows, b_element, b_outs, b_out) := fun c => H (-3) _ _ _ _ (Or.inr (Or.inr (Or.inl ⟨n1, n2, c, rfl⟩))) (by decide)
    refine pk_eq k 2 (fun k2 => ?_) (fun k2 => main (fun w => k2 w.1))
    refine br_c (fun z => bad3 ⟨k2, Or.inl z⟩) (fun z => ?_)
    refine br_c (fun w => main (fun y => ?_)) (fun w => bad3 ⟨k2, Or.inr w⟩)
    rcases y.2 with y | y
    · exact z y
    · exact y w
  have t26 : (k = 0 → ¬ (a < -99 ∨ 99 < a)) → wY_token_26 post (nI k) a (nI n) g_height g_open g_top g_depth b_sizes b_inputs b_kinds b_args b_rowAt b_floor b_lengths b_values b_begins b_many b_rows b_element b_outs b_out := by
    intro h0
    unfold wY_token_26
    refine pk_eq k 1 (fun k1 => ?_) (fun k1 => good (fun y => ?_))
    · refine br_c (fun z => bad1 (Or.inr ⟨k1, Or.inl z⟩)) (fun z => ?_)
      have e23 : (a ≤ 2) ↔ ¬ nI 3 ≤ a := by
        rw [Int32.le_iff_toInt_le, Int32.le_iff_toInt_le, show (2 : Int32).toInt = 2 from by decide, show (nI 3).toInt = 3 from by decide]
        omega
      refine br_c (fun w => good (fun y => ?_)) (fun w => bad1 (Or.inr ⟨k1, Or.inr (Classical.not_not.mp (fun y => w (e23.mpr y)))⟩))
      rcases y with ⟨y, _⟩ | ⟨_, y | y⟩
      · omega
      · exact z y
      · exact e23.mp w y
    · rcases y with ⟨y1, y⟩ | ⟨y, _⟩
      · exact h0 y1 y
      · exact k1 y
  refine pk_eq k 0 (fun k0 => ?_) (fun k0 => t26 (fun z => absurd z k0))
  refine br_c (fun z => bad1 (Or.inl ⟨k0, Or.inl z⟩)) (fun z => ?_)
  refine br_c (fun w => bad1 (Or.inl ⟨k0, Or.inr w⟩)) (fun w => t26 (fun _ y => ?_))
  rcases y with y | y
  · exact z y
  · exact w y
end
end
section
/-! the relation; inputs; loops of the questions -/
def q_Rel (n : Nat) (K : Nat → Nat) (A : Nat → Int32) (inp : Nat → List Int32) (f_size f_height f_open f_known f_resultSort f_resultSize : Int32) (a_inputSize a_inputs a_kind a_arg a_row a_begun a_results : Nat → Int32) (g_count : Int32) (b_sizes b_inputs b_kinds b_args : Nat → Int32) : Prop :=
  n ≤ 40 ∧ f_size = nI n ∧ g_count = nI n ∧ (∀ j, j < n → qv K A j) ∧ (∀ j, j < n → a_kind j = nI (K j) ∧ a_arg j = A j) ∧ (∀ j, j < n → b_kinds j = nI (K j) ∧ b_args j = A j)
  ∧ qx_Inp inp a_inputSize a_inputs ∧ qx_Inp inp b_sizes b_inputs ∧ f_height = nI (qh K n) ∧ f_open = nI (qo K n) ∧ q_Chk K n a_row a_begun
  ∧ (f_known = 0 ∨ (f_known = 1 ∧ q_Res K A inp n f_resultSort f_resultSize a_results))
def i_Rel (_ : Nat) (u : SX) (v : SY) : Prop := match u with
  | (f_size, f_height, f_open, f_depth, f_level, f_known, f_resultSort, f_resultSize, a_inputSize, a_inputs, a_kind, a_arg, a_row, a_begun, a_levelOf, a_head, a_data, a_lanes, a_element, a_outside, a_blockKind, a_results) => match v with
    | (g_count, g_height, g_open, g_top, g_depth, b_sizes, b_inputs, b_kinds, b_args, b_rowAt, b_floor, b_lengths, b_values, b_begins, b_many, b_rows, b_element, b_outs, b_out) => ∃ (n : Nat) (K : Nat → Nat) (A : Nat → Int32) (inp : Nat → List Int32), q_Rel n K A inp f_size f_height f_open f_known f_resultSort f_resultSize a_inputSize a_inputs a_kind a_arg a_row a_begun a_results g_count b_sizes b_inputs b_kinds b_args
theorem i_up {k : Nat} {u : SX} {v : SY} (h : i_Rel k u v) : i_Rel (k + 4) u v := h
section
variable {f_size f_height f_open f_depth f_level f_known f_resultSort f_resultSize : Int32} {a_inputSize a_inputs a_kind a_arg a_row a_begun a_levelOf a_head a_data a_lanes a_element a_outside a_blockKind a_results : Nat → Int32}
variable {g_count g_height g_open g_top g_depth : Int32} {b_sizes b_inputs b_kinds b_args b_rowAt b_floor b_lengths b_values b_begins b_many b_rows b_element b_outs b_out : Nat → Int32}
theorem q_mk {k : Nat} (n : Nat) (K : Nat → Nat) (A : Nat → Int32) (inp : Nat → List Int32) (h : q_Rel n K A inp f_size f_height f_open f_known f_resultSort f_resultSize a_inputSize a_inputs a_kind a_arg a_row a_begun a_results g_count b_sizes b_inputs b_kinds b_args) : i_Rel k (f_size, f_height, f_open, f_depth, f_level, f_known, f_resultSort, f_resultSize, a_inputSize, a_inputs, a_kind, a_arg, a_row, a_begun, a_levelOf, a_head, a_data, a_lanes, a_element, a_outside, a_blockKind, a_results) (g_count, g_height, g_open, g_top, g_depth, b_sizes, b_inputs, b_kinds, b_args, b_rowAt, b_floor, b_lengths, b_values, b_begins, b_many, b_rows, b_element, b_outs, b_out) := ⟨n, K, A, inp, h⟩
end
theorem i_vc0 : wpX_init (fun u => wpY_init (fun v => i_Rel 0 u v)) := by
  unfold wpX_init wpY_init
  refine q_mk 0 (fun _ => 0) (fun _ => 0) (fun _ => []) ⟨by omega, rfl, rfl, fun j hj => absurd hj (Nat.not_lt_zero j), fun j hj => absurd hj (Nat.not_lt_zero j), fun j hj => absurd hj (Nat.not_lt_zero j), ?_, ?_, rfl, rfl, ⟨fun e he => absurd he (Nat.not_lt_zero e), fun b hb => absurd hb (Nat.not_lt_zero b)⟩, Or.inl rfl⟩
  · exact fun b _ => ⟨by simp, rfl, fun k hk => absurd hk (Nat.not_lt_zero k)⟩
  · exact fun b _ => ⟨by simp, rfl, fun k hk => absurd hk (Nat.not_lt_zero k)⟩
theorem q_inp {inp : Nat → List Int32} {sz ip sz' ip' : Nat → Int32} (b : Nat) (L : List Int32) (hb : b < 3) (h : qx_Inp inp sz ip) (h8 : L.length ≤ 8) (h1 : sz' b = nI L.length) (h2 : ∀ c, c ≠ b → sz' c = sz c) (h3 : ∀ k, k < L.length → ip' (8 * b + k) = L.getD k 0) (h4 : ∀ q, (q < 8 * b ∨ 8 * b + 8 ≤ q) → ip' q = ip q) :
    qx_Inp (fun c => if c = b then L else inp c) sz' ip' := by
  intro c hc
  try dsimp only
  by_cases z : c = b
  · rw [if_pos z, z]
    exact ⟨h8, h1, h3⟩
  · rw [if_neg z]
    obtain ⟨a1, a2, a3⟩ := h c hc
    refine ⟨a1, by rw [h2 c z]; exact a2, fun k hk => ?_⟩
    rw [h4 _ (by omega)]
    exact a3 k hk
theorem qx_isI0 {post : Int32 → Prop} {p : Int32} (h : p < 0 ∨ nI 3 ≤ p) (H : post 0) : wpX_isInput post p := by
  by_cases z : p < 0
  · exact br_t z H
  · exact br_f z (br_t (h.resolve_left z) H)
theorem qx_isI1 {post : Int32 → Prop} (b : Nat) (hb : b < 3) (H : post 1) : wpX_isInput post (nI b) :=
  br_f (nI_pos (by omega)) (br_f (qa_nle (b := 3) hb) H)
section
variable {g_count g_height g_open g_top g_depth : Int32} {b_sizes b_inputs b_kinds b_args b_rowAt b_floor b_lengths b_values b_begins b_many b_rows b_element b_outs b_out : Nat → Int32}
theorem qy_isI0 {post : Int32 → Prop} {p : Int32} (h : p < 0 ∨ nI 3 ≤ p) (H : post 0) : wpY_isInput post (g_count, g_height, g_open, g_top, g_depth, b_sizes, b_inputs, b_kinds, b_args, b_rowAt, b_floor, b_lengths, b_values, b_begins, b_many, b_rows, b_element, b_outs, b_out) p := by
  unfold wpY_isInput
  try dsimp only
  by_cases z : p < 0
  · exact br_t z H
  · refine br_f z (br_t ?_ H)
    have w := h.resolve_left z
    rw [Int32.le_iff_toInt_le, show (nI 3).toInt = 3 from by decide] at w
    rw [Int32.lt_iff_toInt_lt, show (2 : Int32).toInt = 2 from by decide]
    omega
theorem qy_isI1 {post : Int32 → Prop} (b : Nat) (hb : b < 3) (H : post 1) : wpY_isInput post (g_count, g_height, g_open, g_top, g_depth, b_sizes, b_inputs, b_kinds, b_args, b_rowAt, b_floor, b_lengths, b_values, b_begins, b_many, b_rows, b_element, b_outs, b_out) (nI b) := by
  unfold wpY_isInput
  try dsimp only
  exact br_f (nI_pos (by omega)) (pk_lt 2 b (fun z => absurd z (by omega)) (fun _ => H))
theorem qy_mix {post : Int32 → SY → Prop} (L : List Int32) (h8 : L.length ≤ 8) (h : qy_Rep b_lengths b_values 0 L) (H : post (qp_sum (fun k => L.getD k 0 * nI (k + 1)) L.length) (g_count, g_height, g_open, g_top, g_depth, b_sizes, b_inputs, b_kinds, b_args, b_rowAt, b_floor, b_lengths, b_values, b_begins, b_many, b_rows, b_element, b_outs, b_out)) :
    ∃ n, wY_mixture_17 post g_count g_height g_open g_top g_depth b_sizes b_inputs b_kinds b_args b_rowAt b_floor b_lengths b_values b_begins b_many b_rows b_element b_outs b_out n 0 0 := by
  obtain ⟨h1, h2⟩ := h
  refine loop_0 (fun n x (s : Int32) => wY_mixture_17 post g_count g_height g_open g_top g_depth b_sizes b_inputs b_kinds b_args b_rowAt b_floor b_lengths b_values b_begins b_many b_rows b_element b_outs b_out n s (nI x)) (fun x s => s = qp_sum (fun k => L.getD k 0 * nI (k + 1)) x) L.length 0 rfl ?_ ?_
  · intro n s hs
    try dsimp only
    subst hs
    try simp (disch := omega) only [qa_m8, qa_m64, qa_m512, qa_a384, qa_a64, nI_add, nI_1, nI_clamp, vp_in_nI, true_and, forall_eq, wY_mixture_17, h1]
    exact br_t (qa_le (Nat.le_refl _)) H
  · intro n x s hx hs Kc
    try dsimp only
    have e := h2 x hx
    rw [show 8 * 0 + x = x from by omega] at e
    try simp (disch := omega) only [qa_m8, qa_m64, qa_m512, qa_a384, qa_a64, nI_add, nI_1, nI_clamp, vp_in_nI, true_and, forall_eq, wY_mixture_17, h1, e]
    refine br_f (qa_nle hx) (Kc _ ?_)
    rw [hs]
    rfl
theorem qy_store38 {post : Int32 → SY → Prop} (b : Nat) (L : List Int32) (hb : b < 3) (h8 : L.length ≤ 8) (h : qy_Rep b_lengths b_values 0 L) (hs : b_sizes b = nI L.length)
    (H : ∀ ip : Nat → Int32, (∀ k, k < L.length → ip (8 * b + k) = L.getD k 0) → (∀ q, (q < 8 * b ∨ 8 * b + 8 ≤ q) → ip q = b_inputs q) → post (nI L.length) (g_count, g_height, g_open, g_top, g_depth, b_sizes, ip, b_kinds, b_args, b_rowAt, b_floor, b_lengths, b_values, b_begins, b_many, b_rows, b_element, b_outs, b_out)) :
    ∃ n, wY_store_38 post (nI b) g_count g_height g_open g_top g_depth n 0 b_sizes b_inputs b_kinds b_args b_rowAt b_floor b_lengths b_values b_begins b_many b_rows b_element b_outs b_out := by
  obtain ⟨h1, h2⟩ := h
  refine loop_0 (fun n x (ip : Nat → Int32) => wY_store_38 post (nI b) g_count g_height g_open g_top g_depth n (nI x) b_sizes ip b_kinds b_args b_rowAt b_floor b_lengths b_values b_begins b_many b_rows b_element b_outs b_out) (fun x ip => (∀ k, k < x → ip (8 * b + k) = b_values k) ∧ (∀ q, (q < 8 * b ∨ 8 * b + 8 ≤ q) → ip q = b_inputs q)) 8 b_inputs ⟨fun k h => absurd h (Nat.not_lt_zero k), fun q _ => rfl⟩ ?_ ?_
  · intro n ip ⟨g1, g2⟩
    refine br_t (qa_le (a := 8) (b := 8) (by omega)) ?_
    try simp (disch := omega) only [qa_m8, qa_m64, qa_m512, qa_a384, qa_a64, nI_add, nI_1, nI_clamp, vp_in_nI, true_and, forall_eq, hs]
    refine H ip (fun k hk => ?_) g2
    have e := h2 k hk
    rw [show 8 * 0 + k = k from by omega] at e
    rw [g1 k (by omega), e]
  · intro n x ip hx ⟨g1, g2⟩ Kc
    refine br_f (qa_nle (b := 8) hx) ?_
    try simp (disch := omega) only [qa_m8, qa_m64, qa_m512, qa_a384, qa_a64, nI_add, nI_1, nI_clamp, vp_in_nI, true_and, forall_eq]
    refine Kc _ ⟨fun k hk => ?_, fun q hq => ?_⟩
    · by_cases z : k = x
      · rw [z, pk_us]
      · rw [pk_un (by omega)]; exact g1 k (by omega)
    · rw [pk_un (by omega)]; exact g2 q hq
end
section
variable {f_size f_height f_open f_depth f_level f_known f_resultSort f_resultSize : Int32} {a_inputSize a_inputs a_kind a_arg a_row a_begun a_levelOf a_head a_data a_lanes a_element a_outside a_blockKind a_results : Nat → Int32}
theorem qx_mix {post : Int32 → SX → Prop} (L : List Int32) (h8 : L.length ≤ 8) (h : ∀ k, k < L.length → a_results k = L.getD k 0) (H : post (qp_sum (fun k => L.getD k 0 * nI (k + 1)) L.length) (f_size, f_height, f_open, f_depth, f_level, f_known, f_resultSort, nI L.length, a_inputSize, a_inputs, a_kind, a_arg, a_row, a_begun, a_levelOf, a_head, a_data, a_lanes, a_element, a_outside, a_blockKind, a_results)) :
    ∃ n, wX_mixture_8 post f_size f_height f_open f_depth f_level f_known f_resultSort (nI L.length) a_inputSize a_inputs a_kind a_arg a_row a_begun a_levelOf a_head a_data a_lanes a_element a_outside a_blockKind a_results n 0 0 := by
  refine loop_0 (fun n x (s : Int32) => wX_mixture_8 post f_size f_height f_open f_depth f_level f_known f_resultSort (nI L.length) a_inputSize a_inputs a_kind a_arg a_row a_begun a_levelOf a_head a_data a_lanes a_element a_outside a_blockKind a_results n s (nI x)) (fun x s => s = qp_sum (fun k => L.getD k 0 * nI (k + 1)) x) L.length 0 rfl ?_ ?_
  · intro n s hs
    try dsimp only
    subst hs
    exact br_t (qa_le (Nat.le_refl _)) H
  · intro n x s hx hs Kc
    try dsimp only
    try simp (disch := omega) only [qa_m8, qa_m64, qa_m512, qa_a384, qa_a64, nI_add, nI_1, nI_clamp, vp_in_nI, true_and, forall_eq, wX_mixture_8, h x hx]
    refine br_f (qa_nle hx) (Kc _ ?_)
    rw [hs]
    rfl
theorem qx_store35 {post : Int32 → SX → Prop} (b : Nat) (L : List Int32) (hb : b < 3) (h8 : L.length ≤ 8) (h : ∀ k, k < L.length → a_results k = L.getD k 0)
    (H : ∀ ip : Nat → Int32, (∀ k, k < L.length → ip (8 * b + k) = L.getD k 0) → (∀ q, (q < 8 * b ∨ 8 * b + 8 ≤ q) → ip q = a_inputs q) → post (nI L.length) (f_size, f_height, f_open, f_depth, f_level, 0, f_resultSort, nI L.length, a_inputSize, ip, a_kind, a_arg, a_row, a_begun, a_levelOf, a_head, a_data, a_lanes, a_element, a_outside, a_blockKind, a_results)) :
    ∃ n, wX_store_35 post (nI b) f_size f_height f_open f_depth f_level f_known f_resultSort (nI L.length) n 0 a_inputSize a_inputs a_kind a_arg a_row a_begun a_levelOf a_head a_data a_lanes a_element a_outside a_blockKind a_results := by
  refine loop_0 (fun n x (ip : Nat → Int32) => wX_store_35 post (nI b) f_size f_height f_open f_depth f_level f_known f_resultSort (nI L.length) n (nI x) a_inputSize ip a_kind a_arg a_row a_begun a_levelOf a_head a_data a_lanes a_element a_outside a_blockKind a_results) (fun x ip => (∀ k, k < x → ip (8 * b + k) = L.getD k 0) ∧ (∀ q, (q < 8 * b ∨ 8 * b + 8 ≤ q) → ip q = a_inputs q)) L.length a_inputs ⟨fun k h => absurd h (Nat.not_lt_zero k), fun q _ => rfl⟩ ?_ ?_
  · intro n ip ⟨g1, g2⟩
    exact br_t (qa_le (Nat.le_refl _)) (H ip g1 g2)
  · intro n x ip hx ⟨g1, g2⟩ Kc
    refine br_f (qa_nle hx) ?_
    try simp (disch := omega) only [qa_m8, qa_m64, qa_m512, qa_a384, qa_a64, nI_add, nI_1, nI_clamp, vp_in_nI, true_and, forall_eq, h x hx]
    refine Kc _ ⟨fun k hk => ?_, fun q hq => ?_⟩
    · by_cases z : k = x
      · rw [z, pk_us]
      · rw [pk_un (by omega)]; exact g1 k (by omega)
    · rw [pk_un (by omega)]; exact g2 q hq
theorem qx_drop31 {K : Nat → Nat} {A : Nat → Int32} {post : Int32 → SX → Prop} (n : Nat) (hn : n ≤ 40) (V : ∀ j, j < n → qv K A j) (hp : ∀ j, j < n → a_kind j = nI (K j))
    (H : ∀ rw fl : Nat → Int32, q_Chk K n rw fl → post (nI n) (nI n, nI (qh K n), nI (qo K n), f_depth, f_level, 0, f_resultSort, f_resultSize, a_inputSize, a_inputs, a_kind, a_arg, rw, fl, a_levelOf, a_head, a_data, a_lanes, a_element, a_outside, a_blockKind, a_results)) :
    ∀ (m i : Nat) (rw fl : Nat → Int32), i + m = n → q_Chk K i rw fl → wX_drop_31 post (m + 1) (nI i) (nI n) (nI (qh K i)) (nI (qo K i)) f_depth f_level f_known f_resultSort f_resultSize a_inputSize a_inputs a_kind a_arg rw fl a_levelOf a_head a_data a_lanes a_element a_outside a_blockKind a_results := by
  intro m
  induction m with
  | zero =>
    intro i rw fl hm hc
    have : i = n := by omega
    subst this
    exact br_t (qa_le (Nat.le_refl _)) (H rw fl hc)
  | succ m ih =>
    intro i rw fl hm hc
    refine br_f (qa_nle (by omega)) ?_
    try simp (disch := omega) only [qa_m8, qa_m64, qa_m512, qa_a384, qa_a64, nI_add, nI_1, nI_clamp, vp_in_nI, true_and, forall_eq, hp i (by omega)]
    refine qx_taken (K i) (V i (by omega)).1 ?_
    refine qx_follow (K := K) (A := A) (fun j hj => V j (by omega)) hc (fun rw' fl' hc' => ?_)
    exact ih (i + 1) rw' fl' (by omega) hc'
end
end
section
/-! what is owed -/
theorem i_vc_put {k : Nat} {u : SX} {v : SY} (I : i_Rel k u v) (hk : k + 4 ≤ 2048) (v1 : Int32) (v2 : Int32) : wpX_put (fun r u' => wpY_put (fun r' v' => r' = r ∧ i_Rel (k + 4) u' v') v v1 v2) u v1 v2 := by
  obtain ⟨f_size, f_height, f_open, f_depth, f_level, f_known, f_resultSort, f_resultSize, a_inputSize, a_inputs, a_kind, a_arg, a_row, a_begun, a_levelOf, a_head, a_data, a_lanes, a_element, a_outside, a_blockKind, a_results⟩ := u
  obtain ⟨g_count, g_height, g_open, g_top, g_depth, b_sizes, b_inputs, b_kinds, b_args, b_rowAt, b_floor, b_lengths, b_values, b_begins, b_many, b_rows, b_element, b_outs, b_out⟩ := v
  obtain ⟨n, K, A, inp, hn, rfl, rfl, V, pX, pY, iX, iY, rfl, rfl, hc, hr⟩ := I
  unfold wpX_put
  try dsimp only
  rcases pk_ix v1 (n := 3) (by omega) with w | w | ⟨b, hb, rfl⟩
  · refine qx_isI0 (Or.inl w) (br_t rfl ?_)
    unfold wpY_put
    exact qy_isI0 (Or.inl w) (br_t rfl ⟨rfl, q_mk n K A inp ⟨hn, rfl, rfl, V, pX, pY, iX, iY, rfl, rfl, hc, hr⟩⟩)
  · refine qx_isI0 (Or.inr w) (br_t rfl ?_)
    unfold wpY_put
    exact qy_isI0 (Or.inr w) (br_t rfl ⟨rfl, q_mk n K A inp ⟨hn, rfl, rfl, V, pX, pY, iX, iY, rfl, rfl, hc, hr⟩⟩)
  · obtain ⟨x1, x2, x3⟩ := iX b hb
    obtain ⟨y1, y2, y3⟩ := iY b hb
    refine qx_isI1 b hb (br_f (by decide) ?_)
    try simp (disch := omega) only [qa_m8, qa_m64, qa_m512, qa_a384, qa_a64, nI_add, nI_1, nI_clamp, vp_in_nI, true_and, forall_eq, x2, pk_us]
    refine pk_lt (inp b).length 8 (fun z => ?_) (fun z => ?_)
    · try simp (disch := omega) only [qa_m8, qa_m64, qa_m512, qa_a384, qa_a64, nI_add, nI_1, nI_clamp, vp_in_nI, true_and, forall_eq, x2, pk_us]
      unfold wpY_put
      refine qy_isI1 b hb (br_f (by decide) ?_)
      try simp (disch := omega) only [qa_m8, qa_m64, qa_m512, qa_a384, qa_a64, nI_add, nI_1, nI_clamp, vp_in_nI, true_and, forall_eq, x2, y2, pk_us]
      refine pk_eq (inp b).length 8 (fun w => absurd w (by omega)) (fun _ => ?_)
      refine q_mk n K A (fun c => if c = b then inp b ++ [v2] else inp c) ⟨hn, rfl, rfl, V, pX, pY, ?_, ?_, rfl, rfl, hc, Or.inl rfl⟩
      · refine q_inp b _ hb iX (by rw [List.length_append]; exact z) (by rw [pk_us, List.length_append]; rfl) (fun c hc => pk_un hc) (fun x hx => ?_) (fun q hq => pk_un (by omega))
        rw [List.length_append] at hx
        have hx' : x < (inp b).length + 1 := hx
        by_cases zx : x = (inp b).length
        · rw [zx, pk_us, qp_app_hi]
        · rw [pk_un (by omega), qp_app_lo (by omega)]; exact x3 x (by omega)
      · refine q_inp b _ hb iY (by rw [List.length_append]; exact z) (by rw [pk_us, List.length_append]; rfl) (fun c hc => pk_un hc) (fun x hx => ?_) (fun q hq => pk_un (by omega))
        rw [List.length_append] at hx
        have hx' : x < (inp b).length + 1 := hx
        by_cases zx : x = (inp b).length
        · rw [zx, pk_us, qp_app_hi]
        · rw [pk_un (by omega), qp_app_lo (by omega)]; exact y3 x (by omega)
    · unfold wpY_put
      refine qy_isI1 b hb (br_f (by decide) ?_)
      try simp (disch := omega) only [qa_m8, qa_m64, qa_m512, qa_a384, qa_a64, nI_add, nI_1, nI_clamp, vp_in_nI, true_and, forall_eq, x2, y2, pk_us]
      exact pk_eq (inp b).length 8 (fun _ => q_mk n K A inp ⟨hn, rfl, rfl, V, pX, pY, iX, iY, rfl, rfl, hc, hr⟩) (fun w => absurd w (by omega))
theorem i_vc_set {k : Nat} {u : SX} {v : SY} (I : i_Rel k u v) (hk : k + 4 ≤ 2048) (v1 : Int32) (v2 : Int32) (v3 : Int32) : wpX_set (fun r u' => wpY_set (fun r' v' => r' = r ∧ i_Rel (k + 4) u' v') v v1 v2 v3) u v1 v2 v3 := by
  obtain ⟨f_size, f_height, f_open, f_depth, f_level, f_known, f_resultSort, f_resultSize, a_inputSize, a_inputs, a_kind, a_arg, a_row, a_begun, a_levelOf, a_head, a_data, a_lanes, a_element, a_outside, a_blockKind, a_results⟩ := u
  obtain ⟨g_count, g_height, g_open, g_top, g_depth, b_sizes, b_inputs, b_kinds, b_args, b_rowAt, b_floor, b_lengths, b_values, b_begins, b_many, b_rows, b_element, b_outs, b_out⟩ := v
  obtain ⟨n, K, A, inp, hn, rfl, rfl, V, pX, pY, iX, iY, rfl, rfl, hc, hr⟩ := I
  have same : i_Rel (k + 4) (nI n, nI (qh K n), nI (qo K n), f_depth, f_level, f_known, f_resultSort, f_resultSize, a_inputSize, a_inputs, a_kind, a_arg, a_row, a_begun, a_levelOf, a_head, a_data, a_lanes, a_element, a_outside, a_blockKind, a_results) (nI n, g_height, g_open, g_top, g_depth, b_sizes, b_inputs, b_kinds, b_args, b_rowAt, b_floor, b_lengths, b_values, b_begins, b_many, b_rows, b_element, b_outs, b_out) := q_mk n K A inp ⟨hn, rfl, rfl, V, pX, pY, iX, iY, rfl, rfl, hc, hr⟩
  unfold wpX_set
  try dsimp only
  rcases pk_ix v1 (n := 3) (by omega) with w | w | ⟨b, hb, rfl⟩
  · refine qx_isI0 (Or.inl w) (br_t rfl ?_)
    unfold wpY_set
    exact qy_isI0 (Or.inl w) (br_t rfl ⟨rfl, same⟩)
  · refine qx_isI0 (Or.inr w) (br_t rfl ?_)
    unfold wpY_set
    exact qy_isI0 (Or.inr w) (br_t rfl ⟨rfl, same⟩)
  · obtain ⟨x1, x2, x3⟩ := iX b hb
    obtain ⟨y1, y2, y3⟩ := iY b hb
    refine qx_isI1 b hb (br_f (by decide) ?_)
    rcases pk_ix v2 (n := (inp b).length) (by omega) with w | w | ⟨p, hp, rfl⟩
    · refine br_t w ?_
      unfold wpY_set
      exact qy_isI1 b hb (br_f (by decide) (br_t w ⟨rfl, same⟩))
    · by_cases w0 : v2 < 0
      · refine br_t w0 ?_
        unfold wpY_set
        exact qy_isI1 b hb (br_f (by decide) (br_t w0 ⟨rfl, same⟩))
      · refine br_f w0 ?_
        try simp (disch := omega) only [qa_m8, qa_m64, qa_m512, qa_a384, qa_a64, nI_add, nI_1, nI_clamp, vp_in_nI, true_and, forall_eq, x2]
        have wn : ¬ v2 < nI (inp b).length := Int32.not_lt.mpr w
        refine br_f wn ?_
        unfold wpY_set
        refine qy_isI1 b hb (br_f (by decide) (br_f w0 ?_))
        try simp (disch := omega) only [qa_m8, qa_m64, qa_m512, qa_a384, qa_a64, nI_add, nI_1, nI_clamp, vp_in_nI, true_and, forall_eq, y2]
        exact br_f wn same
    · refine br_f (nI_pos (by omega)) ?_
      try simp (disch := omega) only [qa_m8, qa_m64, qa_m512, qa_a384, qa_a64, nI_add, nI_1, nI_clamp, vp_in_nI, true_and, forall_eq, x2]
      refine br_t (nI_lt hp (by omega)) ?_
      unfold wpY_set
      refine qy_isI1 b hb (br_f (by decide) (br_f (nI_pos (by omega)) ?_))
      try simp (disch := omega) only [qa_m8, qa_m64, qa_m512, qa_a384, qa_a64, nI_add, nI_1, nI_clamp, vp_in_nI, true_and, forall_eq, y2]
      refine br_t (nI_lt hp (by omega)) ?_
      have hg : ∀ x, ((inp b).set p v3).getD x 0 = if x = p then v3 else (inp b).getD x 0 := by
        intro x
        rw [List.getD_eq_getElem?_getD, List.getElem?_set, List.getD_eq_getElem?_getD]
        by_cases zx : p = x
        · rw [if_pos zx, if_pos hp, if_pos zx.symm]; rfl
        · have zx' : ¬ x = p := fun z => zx z.symm
          rw [if_neg zx, if_neg zx']
      refine q_mk n K A (fun c => if c = b then (inp b).set p v3 else inp c) ⟨hn, rfl, rfl, V, pX, pY, ?_, ?_, rfl, rfl, hc, Or.inl rfl⟩
      · refine q_inp b _ hb iX (by rw [List.length_set]; exact x1) (by rw [List.length_set]; exact x2) (fun c _ => rfl) (fun x hx => ?_) (fun q hq => pk_un (by omega))
        rw [List.length_set] at hx
        rw [hg]
        by_cases zx : x = p
        · rw [if_pos zx, zx, pk_us]
        · rw [if_neg zx, pk_un (by omega)]; exact x3 x hx
      · refine q_inp b _ hb iY (by rw [List.length_set]; exact y1) (by rw [List.length_set]; exact y2) (fun c _ => rfl) (fun x hx => ?_) (fun q hq => pk_un (by omega))
        rw [List.length_set] at hx
        rw [hg]
        by_cases zx : x = p
        · rw [if_pos zx, zx, pk_us]
        · rw [if_neg zx, pk_un (by omega)]; exact y3 x hx
theorem i_vc_empty {k : Nat} {u : SX} {v : SY} (I : i_Rel k u v) (hk : k + 4 ≤ 2048) (v1 : Int32) : wpX_empty (fun r u' => wpY_empty (fun r' v' => r' = r ∧ i_Rel (k + 4) u' v') v v1) u v1 := by
  obtain ⟨f_size, f_height, f_open, f_depth, f_level, f_known, f_resultSort, f_resultSize, a_inputSize, a_inputs, a_kind, a_arg, a_row, a_begun, a_levelOf, a_head, a_data, a_lanes, a_element, a_outside, a_blockKind, a_results⟩ := u
  obtain ⟨g_count, g_height, g_open, g_top, g_depth, b_sizes, b_inputs, b_kinds, b_args, b_rowAt, b_floor, b_lengths, b_values, b_begins, b_many, b_rows, b_element, b_outs, b_out⟩ := v
  obtain ⟨n, K, A, inp, hn, rfl, rfl, V, pX, pY, iX, iY, rfl, rfl, hc, hr⟩ := I
  have same : i_Rel (k + 4) (nI n, nI (qh K n), nI (qo K n), f_depth, f_level, f_known, f_resultSort, f_resultSize, a_inputSize, a_inputs, a_kind, a_arg, a_row, a_begun, a_levelOf, a_head, a_data, a_lanes, a_element, a_outside, a_blockKind, a_results) (nI n, g_height, g_open, g_top, g_depth, b_sizes, b_inputs, b_kinds, b_args, b_rowAt, b_floor, b_lengths, b_values, b_begins, b_many, b_rows, b_element, b_outs, b_out) := q_mk n K A inp ⟨hn, rfl, rfl, V, pX, pY, iX, iY, rfl, rfl, hc, hr⟩
  unfold wpX_empty
  try dsimp only
  rcases pk_ix v1 (n := 3) (by omega) with w | w | ⟨b, hb, rfl⟩
  · refine qx_isI0 (Or.inl w) (br_t rfl ?_)
    unfold wpY_empty
    exact qy_isI0 (Or.inl w) (br_t rfl ⟨rfl, same⟩)
  · refine qx_isI0 (Or.inr w) (br_t rfl ?_)
    unfold wpY_empty
    exact qy_isI0 (Or.inr w) (br_t rfl ⟨rfl, same⟩)
  · obtain ⟨x1, x2, x3⟩ := iX b hb
    obtain ⟨y1, y2, y3⟩ := iY b hb
    refine qx_isI1 b hb (br_f (by decide) ?_)
    try simp (disch := omega) only [qa_m8, qa_m64, qa_m512, qa_a384, qa_a64, nI_add, nI_1, nI_clamp, vp_in_nI, true_and, forall_eq, x2]
    unfold wpY_empty
    refine qy_isI1 b hb (br_f (by decide) ?_)
    try simp (disch := omega) only [qa_m8, qa_m64, qa_m512, qa_a384, qa_a64, nI_add, nI_1, nI_clamp, vp_in_nI, true_and, forall_eq, y2]
    refine q_mk n K A (fun c => if c = b then [] else inp c) ⟨hn, rfl, rfl, V, pX, pY, ?_, ?_, rfl, rfl, hc, Or.inl rfl⟩
    · exact q_inp b [] hb iX (by simp) pk_us (fun c hc => pk_un hc) (fun x hx => absurd hx (Nat.not_lt_zero x)) (fun q _ => rfl)
    · exact q_inp b [] hb iY (by simp) pk_us (fun c hc => pk_un hc) (fun x hx => absurd hx (Nat.not_lt_zero x)) (fun q _ => rfl)
theorem i_vc_store {k : Nat} {u : SX} {v : SY} (I : i_Rel k u v) (hk : k + 4 ≤ 2048) (v1 : Int32) : wpX_store (fun r u' => wpY_store (fun r' v' => r' = r ∧ i_Rel (k + 4) u' v') v v1) u v1 := by
  obtain ⟨f_size, f_height, f_open, f_depth, f_level, f_known, f_resultSort, f_resultSize, a_inputSize, a_inputs, a_kind, a_arg, a_row, a_begun, a_levelOf, a_head, a_data, a_lanes, a_element, a_outside, a_blockKind, a_results⟩ := u
  obtain ⟨g_count, g_height, g_open, g_top, g_depth, b_sizes, b_inputs, b_kinds, b_args, b_rowAt, b_floor, b_lengths, b_values, b_begins, b_many, b_rows, b_element, b_outs, b_out⟩ := v
  obtain ⟨n, K, A, inp, hn, rfl, rfl, V, pX, pY, iX, iY, rfl, rfl, hc, hr⟩ := I
  have same : i_Rel (k + 4) (nI n, nI (qh K n), nI (qo K n), f_depth, f_level, f_known, f_resultSort, f_resultSize, a_inputSize, a_inputs, a_kind, a_arg, a_row, a_begun, a_levelOf, a_head, a_data, a_lanes, a_element, a_outside, a_blockKind, a_results) (nI n, g_height, g_open, g_top, g_depth, b_sizes, b_inputs, b_kinds, b_args, b_rowAt, b_floor, b_lengths, b_values, b_begins, b_many, b_rows, b_element, b_outs, b_out) := q_mk n K A inp ⟨hn, rfl, rfl, V, pX, pY, iX, iY, rfl, rfl, hc, hr⟩
  have I2 := q_i2 (K := K) (A := A) (inp := inp) (fun b hb => (iX b hb).1) n V
  unfold wpX_store
  rcases pk_ix v1 (n := 3) (by omega) with w | w | ⟨b, hb, rfl⟩
  · refine qx_isI0 (Or.inl w) (br_t rfl ?_)
    unfold wpY_store
    exact qy_isI0 (Or.inl w) (br_t rfl ⟨rfl, same⟩)
  · refine qx_isI0 (Or.inr w) (br_t rfl ?_)
    unfold wpY_store
    exact qy_isI0 (Or.inr w) (br_t rfl ⟨rfl, same⟩)
  · refine qx_isI1 b hb (br_f (by decide) ?_)
    refine qx_work n hn V iX pX hc.1 hr (fun dp le rs rz lo hd dt la el ou bk res R => ?_)
    by_cases wh : qo K n = 0 ∧ qh K n = 1
    · obtain ⟨e1, e2, e3⟩ := R.1 wh
      have h8 := (I2.1 0 (fun _ => 0) (by omega)).2
      subst e1 e2
      try dsimp only
      refine br_f (by split <;> decide) ?_
      try simp (disch := omega) only [qa_m8, qa_m64, qa_m512, qa_a384, qa_a64, nI_add, nI_1, nI_clamp, vp_in_nI, true_and, forall_eq]
      refine qx_store35 b _ hb h8 e3 (fun ip g1 g2 => ?_)
      unfold wpY_store
      refine qy_isI1 b hb (br_f (by decide) ?_)
      refine qy_isWhole hn V (fun j hj => (pY j hj).1) (fun _ rw fl hcy => ?_) (fun z => absurd wh z)
      try dsimp only
      refine br_f (by decide) ?_
      refine qy_work hn V iY pY wh.1 wh.2 (fun tp dp2 le2 va2 be2 ma2 ro2 el2 os2 ou2 rp => ?_)
      try dsimp only
      try simp (disch := omega) only [qa_m8, qa_m64, qa_m512, qa_a384, qa_a64, nI_add, nI_1, nI_clamp, vp_in_nI, true_and, forall_eq, rp.1]
      refine qy_store38 b _ hb h8 rp pk_us (fun ip2 k1 k2 => ⟨rfl, ?_⟩)
      refine q_mk n K A (fun c => if c = b then qn K A inp n 0 (fun _ => 0) else inp c) ⟨hn, rfl, rfl, V, pX, pY, ?_, ?_, rfl, rfl, hc, Or.inl rfl⟩
      · exact q_inp b _ hb iX h8 pk_us (fun c hc => pk_un hc) g1 g2
      · exact q_inp b _ hb iY h8 pk_us (fun c hc => pk_un hc) k1 k2
    · obtain ⟨e1, e2⟩ := R.2 wh
      subst e1 e2
      try dsimp only
      refine br_t rfl ?_
      unfold wpY_store
      refine qy_isI1 b hb (br_f (by decide) ?_)
      refine qy_isWhole hn V (fun j hj => (pY j hj).1) (fun z => absurd z wh) (fun _ rw fl hcy => ?_)
      try dsimp only
      exact br_t rfl ⟨rfl, q_mk n K A inp ⟨hn, rfl, rfl, V, pX, pY, iX, iY, rfl, rfl, hc, Or.inr ⟨rfl, R⟩⟩⟩
theorem i_vc_token {k : Nat} {u : SX} {v : SY} (I : i_Rel k u v) (hk : k + 4 ≤ 2048) (v1 : Int32) (v2 : Int32) : wpX_token (fun r u' => wpY_token (fun r' v' => r' = r ∧ i_Rel (k + 4) u' v') v v1 v2) u v1 v2 := by
  obtain ⟨f_size, f_height, f_open, f_depth, f_level, f_known, f_resultSort, f_resultSize, a_inputSize, a_inputs, a_kind, a_arg, a_row, a_begun, a_levelOf, a_head, a_data, a_lanes, a_element, a_outside, a_blockKind, a_results⟩ := u
  obtain ⟨g_count, g_height, g_open, g_top, g_depth, b_sizes, b_inputs, b_kinds, b_args, b_rowAt, b_floor, b_lengths, b_values, b_begins, b_many, b_rows, b_element, b_outs, b_out⟩ := v
  obtain ⟨n, K, A, inp, hn, rfl, rfl, V, pX, pY, iX, iY, rfl, rfl, hc, hr⟩ := I
  have same : i_Rel (k + 4) (nI n, nI (qh K n), nI (qo K n), f_depth, f_level, f_known, f_resultSort, f_resultSize, a_inputSize, a_inputs, a_kind, a_arg, a_row, a_begun, a_levelOf, a_head, a_data, a_lanes, a_element, a_outside, a_blockKind, a_results) (nI n, g_height, g_open, g_top, g_depth, b_sizes, b_inputs, b_kinds, b_args, b_rowAt, b_floor, b_lengths, b_values, b_begins, b_many, b_rows, b_element, b_outs, b_out) := q_mk n K A inp ⟨hn, rfl, rfl, V, pX, pY, iX, iY, rfl, rfl, hc, hr⟩
  have I1 := q_i1 (K := K) (A := A) n V
  by_cases h0 : v1 < 0
  · unfold wpX_token
    refine br_t h0 ?_
    unfold wpY_token
    exact br_t h0 ⟨rfl, same⟩
  by_cases h21 : (21 : Int32) < v1
  · unfold wpX_token
    refine br_f h0 (br_t h21 ?_)
    unfold wpY_token
    exact br_f h0 (br_t h21 ⟨rfl, same⟩)
  obtain ⟨kd, hkd, rfl⟩ := nI_of h0
  have hk22 : kd < 22 := by
    have : ¬ nI 21 < nI kd := h21
    rw [nI_ltI (by omega) hkd] at this
    omega
  refine qx_token kd v2 hk22 hn V hc (fun r dr hr0 => ?_) (fun d0 rw fl hc' => ?_)
  · refine qy_token kd v2 hk22 hn V (fun j hj => (pY j hj).1) (fun r' he ope rw' fl' dr' hr0' => ⟨q_dc_u dr dr', q_mk n K A inp ⟨hn, rfl, rfl, V, pX, pY, iX, iY, rfl, rfl, hc, hr⟩⟩) (fun d0 => ?_)
    exact absurd (q_dc_u d0 dr) hr0
  · refine qy_token kd v2 hk22 hn V (fun j hj => (pY j hj).1) (fun r' he ope rw' fl' dr' hr0' => absurd (q_dc_u d0 dr') hr0') (fun _ he ope rw' fl' => ⟨rfl, ?_⟩)
    obtain ⟨n40, V'⟩ := q_dec_v hk22 I1 V d0
    refine q_mk (n + 1) (qK K n kd) (upd A n v2) inp ⟨by omega, rfl, rfl, fun j hj => V' j (by omega), fun j hj => ?_, fun j hj => ?_, iX, iY, rfl, rfl, hc', Or.inl rfl⟩
    · by_cases z : j = n
      · rw [z, pk_us, pk_us, pk_us, qK_n]; exact ⟨rfl, rfl⟩
      · rw [pk_un z, pk_un z, pk_un z, ← qK_lt (by omega)]; exact pX j (by omega)
    · by_cases z : j = n
      · rw [z, pk_us, pk_us, pk_us, qK_n]; exact ⟨rfl, rfl⟩
      · rw [pk_un z, pk_un z, pk_un z, ← qK_lt (by omega)]; exact pY j (by omega)
theorem i_vc_drop {k : Nat} {u : SX} {v : SY} (I : i_Rel k u v) (hk : k + 4 ≤ 2048) : wpX_drop (fun r u' => wpY_drop (fun r' v' => r' = r ∧ i_Rel (k + 4) u' v') v) u := by
  obtain ⟨f_size, f_height, f_open, f_depth, f_level, f_known, f_resultSort, f_resultSize, a_inputSize, a_inputs, a_kind, a_arg, a_row, a_begun, a_levelOf, a_head, a_data, a_lanes, a_element, a_outside, a_blockKind, a_results⟩ := u
  obtain ⟨g_count, g_height, g_open, g_top, g_depth, b_sizes, b_inputs, b_kinds, b_args, b_rowAt, b_floor, b_lengths, b_values, b_begins, b_many, b_rows, b_element, b_outs, b_out⟩ := v
  obtain ⟨n, K, A, inp, hn, rfl, rfl, V, pX, pY, iX, iY, rfl, rfl, hc, hr⟩ := I
  unfold wpX_drop
  try dsimp only
  refine pk_eq n 0 (fun z => ?_) (fun z => ?_)
  · unfold wpY_drop
    try dsimp only
    exact pk_eq n 0 (fun _ => ⟨rfl, q_mk n K A inp ⟨hn, rfl, rfl, V, pX, pY, iX, iY, rfl, rfl, hc, hr⟩⟩) (fun w => absurd z w)
  · rw [qa_s1 (by omega)]
    refine nm_e ?_
    refine ⟨n - 1 + 1, qx_drop31 (K := K) (A := A) (n - 1) (by omega) (fun j hj => V j (by omega)) (fun j hj => (pX j (by omega)).1) (fun rw fl hc' => ?_) (n - 1) 0 a_row a_begun (by omega) ⟨fun e he => absurd he (Nat.not_lt_zero e), fun b hb => absurd hb (Nat.not_lt_zero b)⟩⟩
    unfold wpY_drop
    try dsimp only
    refine pk_eq n 0 (fun w => absurd w z) (fun _ => ?_)
    rw [qa_s1 (by omega)]
    refine nm_e ⟨rfl, ?_⟩
    exact q_mk (n - 1) K A inp ⟨by omega, rfl, rfl, fun j hj => V j (by omega), fun j hj => pX j (by omega), fun j hj => pY j (by omega), iX, iY, rfl, rfl, hc', Or.inl rfl⟩
theorem i_vc_clear {k : Nat} {u : SX} {v : SY} (I : i_Rel k u v) (hk : k + 4 ≤ 2048) : wpX_clear (fun r u' => wpY_clear (fun r' v' => r' = r ∧ i_Rel (k + 4) u' v') v) u := by
  obtain ⟨f_size, f_height, f_open, f_depth, f_level, f_known, f_resultSort, f_resultSize, a_inputSize, a_inputs, a_kind, a_arg, a_row, a_begun, a_levelOf, a_head, a_data, a_lanes, a_element, a_outside, a_blockKind, a_results⟩ := u
  obtain ⟨g_count, g_height, g_open, g_top, g_depth, b_sizes, b_inputs, b_kinds, b_args, b_rowAt, b_floor, b_lengths, b_values, b_begins, b_many, b_rows, b_element, b_outs, b_out⟩ := v
  obtain ⟨n, K, A, inp, hn, rfl, rfl, V, pX, pY, iX, iY, rfl, rfl, hc, hr⟩ := I
  unfold wpX_clear wpY_clear
  try dsimp only
  exact ⟨rfl, q_mk 0 K A inp ⟨by omega, rfl, rfl, fun j hj => absurd hj (Nat.not_lt_zero j), fun j hj => absurd hj (Nat.not_lt_zero j), fun j hj => absurd hj (Nat.not_lt_zero j), iX, iY, rfl, rfl, ⟨fun e he => absurd he (Nat.not_lt_zero e), fun b hb => absurd hb (Nat.not_lt_zero b)⟩, Or.inl rfl⟩⟩
theorem i_vc_size {k : Nat} {u : SX} {v : SY} (I : i_Rel k u v) (hk : k + 4 ≤ 2048) (v1 : Int32) : wpX_size (fun r => wpY_size (fun r' => r' = r ∧ i_Rel (k + 4) u v) v v1) u v1 := by
  obtain ⟨f_size, f_height, f_open, f_depth, f_level, f_known, f_resultSort, f_resultSize, a_inputSize, a_inputs, a_kind, a_arg, a_row, a_begun, a_levelOf, a_head, a_data, a_lanes, a_element, a_outside, a_blockKind, a_results⟩ := u
  obtain ⟨g_count, g_height, g_open, g_top, g_depth, b_sizes, b_inputs, b_kinds, b_args, b_rowAt, b_floor, b_lengths, b_values, b_begins, b_many, b_rows, b_element, b_outs, b_out⟩ := v
  obtain ⟨n, K, A, inp, hn, rfl, rfl, V, pX, pY, iX, iY, rfl, rfl, hc, hr⟩ := I
  have same : i_Rel (k + 4) (nI n, nI (qh K n), nI (qo K n), f_depth, f_level, f_known, f_resultSort, f_resultSize, a_inputSize, a_inputs, a_kind, a_arg, a_row, a_begun, a_levelOf, a_head, a_data, a_lanes, a_element, a_outside, a_blockKind, a_results) (nI n, g_height, g_open, g_top, g_depth, b_sizes, b_inputs, b_kinds, b_args, b_rowAt, b_floor, b_lengths, b_values, b_begins, b_many, b_rows, b_element, b_outs, b_out) := q_mk n K A inp ⟨hn, rfl, rfl, V, pX, pY, iX, iY, rfl, rfl, hc, hr⟩
  unfold wpX_size
  try dsimp only
  rcases pk_ix v1 (n := 3) (by omega) with w | w | ⟨b, hb, rfl⟩
  · refine qx_isI0 (Or.inl w) (br_t rfl ?_)
    unfold wpY_size
    exact qy_isI0 (Or.inl w) (br_t rfl ⟨rfl, same⟩)
  · refine qx_isI0 (Or.inr w) (br_t rfl ?_)
    unfold wpY_size
    exact qy_isI0 (Or.inr w) (br_t rfl ⟨rfl, same⟩)
  · obtain ⟨x1, x2, x3⟩ := iX b hb
    obtain ⟨y1, y2, y3⟩ := iY b hb
    refine qx_isI1 b hb (br_f (by decide) ?_)
    try simp (disch := omega) only [qa_m8, qa_m64, qa_m512, qa_a384, qa_a64, nI_add, nI_1, nI_clamp, vp_in_nI, true_and, forall_eq, x2]
    unfold wpY_size
    refine qy_isI1 b hb (br_f (by decide) ?_)
    try simp (disch := omega) only [qa_m8, qa_m64, qa_m512, qa_a384, qa_a64, nI_add, nI_1, nI_clamp, vp_in_nI, true_and, forall_eq, y2]
    exact same
theorem i_vc_input {k : Nat} {u : SX} {v : SY} (I : i_Rel k u v) (hk : k + 4 ≤ 2048) (v1 : Int32) (v2 : Int32) : wpX_input (fun r => wpY_input (fun r' => r' = r ∧ i_Rel (k + 4) u v) v v1 v2) u v1 v2 := by
  obtain ⟨f_size, f_height, f_open, f_depth, f_level, f_known, f_resultSort, f_resultSize, a_inputSize, a_inputs, a_kind, a_arg, a_row, a_begun, a_levelOf, a_head, a_data, a_lanes, a_element, a_outside, a_blockKind, a_results⟩ := u
  obtain ⟨g_count, g_height, g_open, g_top, g_depth, b_sizes, b_inputs, b_kinds, b_args, b_rowAt, b_floor, b_lengths, b_values, b_begins, b_many, b_rows, b_element, b_outs, b_out⟩ := v
  obtain ⟨n, K, A, inp, hn, rfl, rfl, V, pX, pY, iX, iY, rfl, rfl, hc, hr⟩ := I
  have same : i_Rel (k + 4) (nI n, nI (qh K n), nI (qo K n), f_depth, f_level, f_known, f_resultSort, f_resultSize, a_inputSize, a_inputs, a_kind, a_arg, a_row, a_begun, a_levelOf, a_head, a_data, a_lanes, a_element, a_outside, a_blockKind, a_results) (nI n, g_height, g_open, g_top, g_depth, b_sizes, b_inputs, b_kinds, b_args, b_rowAt, b_floor, b_lengths, b_values, b_begins, b_many, b_rows, b_element, b_outs, b_out) := q_mk n K A inp ⟨hn, rfl, rfl, V, pX, pY, iX, iY, rfl, rfl, hc, hr⟩
  unfold wpX_input
  try dsimp only
  rcases pk_ix v1 (n := 3) (by omega) with w | w | ⟨b, hb, rfl⟩
  · refine qx_isI0 (Or.inl w) (br_t rfl ?_)
    unfold wpY_input
    exact qy_isI0 (Or.inl w) (br_t rfl ⟨rfl, same⟩)
  · refine qx_isI0 (Or.inr w) (br_t rfl ?_)
    unfold wpY_input
    exact qy_isI0 (Or.inr w) (br_t rfl ⟨rfl, same⟩)
  · obtain ⟨x1, x2, x3⟩ := iX b hb
    obtain ⟨y1, y2, y3⟩ := iY b hb
    refine qx_isI1 b hb (br_f (by decide) ?_)
    rcases pk_ix v2 (n := (inp b).length) (by omega) with w | w | ⟨p, hp, rfl⟩
    · refine br_t w ?_
      unfold wpY_input
      exact qy_isI1 b hb (br_f (by decide) (br_t w ⟨rfl, same⟩))
    · by_cases w0 : v2 < 0
      · refine br_t w0 ?_
        unfold wpY_input
        exact qy_isI1 b hb (br_f (by decide) (br_t w0 ⟨rfl, same⟩))
      · refine br_f w0 ?_
        try simp (disch := omega) only [qa_m8, qa_m64, qa_m512, qa_a384, qa_a64, nI_add, nI_1, nI_clamp, vp_in_nI, true_and, forall_eq, x2]
        refine br_t w ?_
        unfold wpY_input
        refine qy_isI1 b hb (br_f (by decide) (br_f w0 ?_))
        try simp (disch := omega) only [qa_m8, qa_m64, qa_m512, qa_a384, qa_a64, nI_add, nI_1, nI_clamp, vp_in_nI, true_and, forall_eq, y2]
        exact br_t w same
    · refine br_f (nI_pos (by omega)) ?_
      try simp (disch := omega) only [qa_m8, qa_m64, qa_m512, qa_a384, qa_a64, nI_add, nI_1, nI_clamp, vp_in_nI, true_and, forall_eq, x2, x3 p hp]
      refine br_f (qa_nle hp) ?_
      unfold wpY_input
      refine qy_isI1 b hb (br_f (by decide) (br_f (nI_pos (by omega)) ?_))
      try simp (disch := omega) only [qa_m8, qa_m64, qa_m512, qa_a384, qa_a64, nI_add, nI_1, nI_clamp, vp_in_nI, true_and, forall_eq, y2, y3 p hp]
      exact br_f (qa_nle hp) same
theorem i_vc_sort {k : Nat} {u : SX} {v : SY} (I : i_Rel k u v) (hk : k + 4 ≤ 2048) : wpX_sort (fun r u' => wpY_sort (fun r' v' => r' = r ∧ i_Rel (k + 4) u' v') v) u := by
  obtain ⟨f_size, f_height, f_open, f_depth, f_level, f_known, f_resultSort, f_resultSize, a_inputSize, a_inputs, a_kind, a_arg, a_row, a_begun, a_levelOf, a_head, a_data, a_lanes, a_element, a_outside, a_blockKind, a_results⟩ := u
  obtain ⟨g_count, g_height, g_open, g_top, g_depth, b_sizes, b_inputs, b_kinds, b_args, b_rowAt, b_floor, b_lengths, b_values, b_begins, b_many, b_rows, b_element, b_outs, b_out⟩ := v
  obtain ⟨n, K, A, inp, hn, rfl, rfl, V, pX, pY, iX, iY, rfl, rfl, hc, hr⟩ := I
  unfold wpX_sort
  refine qx_work n hn V iX pX hc.1 hr (fun dp le rs rz lo hd dt la el ou bk res R => ?_)
  try dsimp only
  unfold wpY_sort
  refine qy_isWhole hn V (fun j hj => (pY j hj).1) (fun wh rw fl hcy => ?_) (fun wh rw fl hcy => ?_)
  · obtain ⟨e1, e2, e3⟩ := R.1 wh
    try dsimp only
    refine br_f (by decide) ?_
    have er := hcy.1 0 (by omega)
    have same : ∀ r : Int32, r = rs → r = rs ∧ i_Rel (k + 4) (nI n, nI (qh K n), nI (qo K n), dp, le, 1, rs, rz, a_inputSize, a_inputs, a_kind, a_arg, a_row, a_begun, lo, hd, dt, la, el, ou, bk, res) (nI n, nI (qh K n), nI (qo K n), g_top, g_depth, b_sizes, b_inputs, b_kinds, b_args, rw, fl, b_lengths, b_values, b_begins, b_many, b_rows, b_element, b_outs, b_out) :=
      fun r e => ⟨e, q_mk n K A inp ⟨hn, rfl, rfl, V, pX, pY, iX, iY, rfl, rfl, hc, Or.inr ⟨rfl, R⟩⟩⟩
    rw [er]
    refine br_c (fun z => same 1 ?_) (fun z => same 2 ?_)
    · rw [e1, if_neg (by rw [qp_b_0.mp z]; decide)]
    · rw [e1, if_pos ?_]
      cases hq : qw K n 0
      · rw [hq] at z; exact absurd rfl z
      · rfl
  · obtain ⟨e1, e2⟩ := R.2 wh
    try dsimp only
    exact br_t rfl ⟨e1.symm, q_mk n K A inp ⟨hn, rfl, rfl, V, pX, pY, iX, iY, rfl, rfl, hc, Or.inr ⟨rfl, R⟩⟩⟩
theorem i_vc_length {k : Nat} {u : SX} {v : SY} (I : i_Rel k u v) (hk : k + 4 ≤ 2048) : wpX_length (fun r u' => wpY_length (fun r' v' => r' = r ∧ i_Rel (k + 4) u' v') v) u := by
  obtain ⟨f_size, f_height, f_open, f_depth, f_level, f_known, f_resultSort, f_resultSize, a_inputSize, a_inputs, a_kind, a_arg, a_row, a_begun, a_levelOf, a_head, a_data, a_lanes, a_element, a_outside, a_blockKind, a_results⟩ := u
  obtain ⟨g_count, g_height, g_open, g_top, g_depth, b_sizes, b_inputs, b_kinds, b_args, b_rowAt, b_floor, b_lengths, b_values, b_begins, b_many, b_rows, b_element, b_outs, b_out⟩ := v
  obtain ⟨n, K, A, inp, hn, rfl, rfl, V, pX, pY, iX, iY, rfl, rfl, hc, hr⟩ := I
  unfold wpX_length
  refine qx_work n hn V iX pX hc.1 hr (fun dp le rs rz lo hd dt la el ou bk res R => ?_)
  try dsimp only
  unfold wpY_length
  by_cases wh : qo K n = 0 ∧ qh K n = 1
  · obtain ⟨e1, e2, e3⟩ := R.1 wh
    refine br_f (by rw [e1]; split <;> decide) ?_
    refine qy_isWhole hn V (fun j hj => (pY j hj).1) (fun _ rw fl hcy => ?_) (fun z => absurd wh z)
    try dsimp only
    refine br_f (by decide) ?_
    refine qy_work hn V iY pY wh.1 wh.2 (fun tp dp2 le2 va2 be2 ma2 ro2 el2 os2 ou2 rp => ?_)
    try dsimp only
    exact ⟨rp.1.trans e2.symm, q_mk n K A inp ⟨hn, rfl, rfl, V, pX, pY, iX, iY, rfl, rfl, hc, Or.inr ⟨rfl, R⟩⟩⟩
  · obtain ⟨e1, e2⟩ := R.2 wh
    refine br_t e1 ?_
    refine qy_isWhole hn V (fun j hj => (pY j hj).1) (fun z => absurd z wh) (fun _ rw fl hcy => ?_)
    try dsimp only
    exact br_t rfl ⟨rfl, q_mk n K A inp ⟨hn, rfl, rfl, V, pX, pY, iX, iY, rfl, rfl, hc, Or.inr ⟨rfl, R⟩⟩⟩
theorem i_vc_result {k : Nat} {u : SX} {v : SY} (I : i_Rel k u v) (hk : k + 4 ≤ 2048) (v1 : Int32) : wpX_result (fun r u' => wpY_result (fun r' v' => r' = r ∧ i_Rel (k + 4) u' v') v v1) u v1 := by
  obtain ⟨f_size, f_height, f_open, f_depth, f_level, f_known, f_resultSort, f_resultSize, a_inputSize, a_inputs, a_kind, a_arg, a_row, a_begun, a_levelOf, a_head, a_data, a_lanes, a_element, a_outside, a_blockKind, a_results⟩ := u
  obtain ⟨g_count, g_height, g_open, g_top, g_depth, b_sizes, b_inputs, b_kinds, b_args, b_rowAt, b_floor, b_lengths, b_values, b_begins, b_many, b_rows, b_element, b_outs, b_out⟩ := v
  obtain ⟨n, K, A, inp, hn, rfl, rfl, V, pX, pY, iX, iY, rfl, rfl, hc, hr⟩ := I
  have I2 := q_i2 (K := K) (A := A) (inp := inp) (fun b hb => (iX b hb).1) n V
  unfold wpX_result
  refine qx_work n hn V iX pX hc.1 hr (fun dp le rs rz lo hd dt la el ou bk res R => ?_)
  try dsimp only
  unfold wpY_result
  by_cases wh : qo K n = 0 ∧ qh K n = 1
  · obtain ⟨e1, e2, e3⟩ := R.1 wh
    have h8 := (I2.1 0 (fun _ => 0) (by omega)).2
    have rel : ∀ (he ope tp dp2 : Int32) (rw fl le2 va2 be2 ma2 ro2 el2 os2 ou2 : Nat → Int32), i_Rel (k + 4) (nI n, nI (qh K n), nI (qo K n), dp, le, 1, rs, rz, a_inputSize, a_inputs, a_kind, a_arg, a_row, a_begun, lo, hd, dt, la, el, ou, bk, res) (nI n, he, ope, tp, dp2, b_sizes, b_inputs, b_kinds, b_args, rw, fl, le2, va2, be2, ma2, ro2, el2, os2, ou2) :=
      fun _ _ _ _ _ _ _ _ _ _ _ _ _ _ => q_mk n K A inp ⟨hn, rfl, rfl, V, pX, pY, iX, iY, rfl, rfl, hc, Or.inr ⟨rfl, R⟩⟩
    rcases pk_ix v1 (n := (qn K A inp n 0 (fun _ => 0)).length) (by omega) with w | w | ⟨p, hp, rfl⟩
    · refine br_t w ?_
      refine qy_isWhole hn V (fun j hj => (pY j hj).1) (fun _ rw fl hcy => ?_) (fun z => absurd wh z)
      try dsimp only
      refine br_f (by decide) ?_
      refine qy_work hn V iY pY wh.1 wh.2 (fun tp dp2 le2 va2 be2 ma2 ro2 el2 os2 ou2 rp => ?_)
      try dsimp only
      exact br_t w ⟨rfl, rel _ _ _ _ _ _ _ _ _ _ _ _ _ _⟩
    · by_cases w0 : v1 < 0
      · refine br_t w0 ?_
        refine qy_isWhole hn V (fun j hj => (pY j hj).1) (fun _ rw fl hcy => ?_) (fun z => absurd wh z)
        try dsimp only
        refine br_f (by decide) ?_
        refine qy_work hn V iY pY wh.1 wh.2 (fun tp dp2 le2 va2 be2 ma2 ro2 el2 os2 ou2 rp => ?_)
        try dsimp only
        exact br_t w0 ⟨rfl, rel _ _ _ _ _ _ _ _ _ _ _ _ _ _⟩
      · refine br_f w0 (br_t (by rw [e2]; exact w) ?_)
        refine qy_isWhole hn V (fun j hj => (pY j hj).1) (fun _ rw fl hcy => ?_) (fun z => absurd wh z)
        try dsimp only
        refine br_f (by decide) ?_
        refine qy_work hn V iY pY wh.1 wh.2 (fun tp dp2 le2 va2 be2 ma2 ro2 el2 os2 ou2 rp => ?_)
        try dsimp only
        exact br_f w0 (br_t (by rw [rp.1]; exact w) ⟨rfl, rel _ _ _ _ _ _ _ _ _ _ _ _ _ _⟩)
    · refine br_f (nI_pos (by omega)) (br_f (by rw [e2]; exact qa_nle hp) ⟨vp_in_nI (by omega) (by omega), ?_⟩)
      refine qy_isWhole hn V (fun j hj => (pY j hj).1) (fun _ rw fl hcy => ?_) (fun z => absurd wh z)
      try dsimp only
      refine br_f (by decide) ?_
      refine qy_work hn V iY pY wh.1 wh.2 (fun tp dp2 le2 va2 be2 ma2 ro2 el2 os2 ou2 rp => ?_)
      try dsimp only
      refine br_f (nI_pos (by omega)) (br_f (by rw [rp.1]; exact qa_nle hp) ⟨vp_in_nI (by omega) (by omega), ?_, rel _ _ _ _ _ _ _ _ _ _ _ _ _ _⟩)
      have e := rp.2 p hp
      rw [show 8 * 0 + p = p from by omega] at e
      rw [nI_clamp (by omega), e, e3 p hp]
  · obtain ⟨e1, e2⟩ := R.2 wh
    have rel : ∀ (he ope : Int32) (rw fl : Nat → Int32), i_Rel (k + 4) (nI n, nI (qh K n), nI (qo K n), dp, le, 1, rs, rz, a_inputSize, a_inputs, a_kind, a_arg, a_row, a_begun, lo, hd, dt, la, el, ou, bk, res) (nI n, he, ope, g_top, g_depth, b_sizes, b_inputs, b_kinds, b_args, rw, fl, b_lengths, b_values, b_begins, b_many, b_rows, b_element, b_outs, b_out) :=
      fun _ _ _ _ => q_mk n K A inp ⟨hn, rfl, rfl, V, pX, pY, iX, iY, rfl, rfl, hc, Or.inr ⟨rfl, R⟩⟩
    by_cases w0 : v1 < 0
    · refine br_t w0 ?_
      refine qy_isWhole hn V (fun j hj => (pY j hj).1) (fun z => absurd z wh) (fun _ rw fl hcy => ?_)
      try dsimp only
      exact br_t rfl ⟨rfl, rel _ _ _ _⟩
    · refine br_f w0 (br_t (by rw [e2]; exact Int32.not_lt.mp w0) ?_)
      refine qy_isWhole hn V (fun j hj => (pY j hj).1) (fun z => absurd z wh) (fun _ rw fl hcy => ?_)
      try dsimp only
      exact br_t rfl ⟨rfl, rel _ _ _ _⟩
theorem i_vc_mixture {k : Nat} {u : SX} {v : SY} (I : i_Rel k u v) (hk : k + 4 ≤ 2048) : wpX_mixture (fun r u' => wpY_mixture (fun r' v' => r' = r ∧ i_Rel (k + 4) u' v') v) u := by
  obtain ⟨f_size, f_height, f_open, f_depth, f_level, f_known, f_resultSort, f_resultSize, a_inputSize, a_inputs, a_kind, a_arg, a_row, a_begun, a_levelOf, a_head, a_data, a_lanes, a_element, a_outside, a_blockKind, a_results⟩ := u
  obtain ⟨g_count, g_height, g_open, g_top, g_depth, b_sizes, b_inputs, b_kinds, b_args, b_rowAt, b_floor, b_lengths, b_values, b_begins, b_many, b_rows, b_element, b_outs, b_out⟩ := v
  obtain ⟨n, K, A, inp, hn, rfl, rfl, V, pX, pY, iX, iY, rfl, rfl, hc, hr⟩ := I
  have I2 := q_i2 (K := K) (A := A) (inp := inp) (fun b hb => (iX b hb).1) n V
  unfold wpX_mixture
  refine qx_work n hn V iX pX hc.1 hr (fun dp le rs rz lo hd dt la el ou bk res R => ?_)
  try dsimp only
  by_cases wh : qo K n = 0 ∧ qh K n = 1
  · obtain ⟨e1, e2, e3⟩ := R.1 wh
    have h8 := (I2.1 0 (fun _ => 0) (by omega)).2
    have R' := R
    subst e2
    refine qx_mix (qn K A inp n 0 (fun _ => 0)) h8 e3 ?_
    unfold wpY_mixture
    refine qy_isWhole hn V (fun j hj => (pY j hj).1) (fun _ rw fl hcy => ?_) (fun z => absurd wh z)
    try dsimp only
    refine br_f (by decide) ?_
    refine qy_work hn V iY pY wh.1 wh.2 (fun tp dp2 le2 va2 be2 ma2 ro2 el2 os2 ou2 rp => ?_)
    try dsimp only
    refine qy_mix (qn K A inp n 0 (fun _ => 0)) h8 rp ⟨rfl, ?_⟩
    exact q_mk n K A inp ⟨hn, rfl, rfl, V, pX, pY, iX, iY, rfl, rfl, hc, Or.inr ⟨rfl, R'⟩⟩
  · obtain ⟨e1, e2⟩ := R.2 wh
    have R' := R
    subst e2
    refine ⟨1, br_t (by decide) ?_⟩
    unfold wpY_mixture
    refine qy_isWhole hn V (fun j hj => (pY j hj).1) (fun z => absurd z wh) (fun _ rw fl hcy => ?_)
    try dsimp only
    exact br_t rfl ⟨rfl, q_mk n K A inp ⟨hn, rfl, rfl, V, pX, pY, iX, iY, rfl, rfl, hc, Or.inr ⟨rfl, R'⟩⟩⟩
end
