section
/-! rows of kit/rows/PURE-ROWS (starting text): stores, nI arithmetic, branches by naturals -/
theorem pk_us {f : Nat → Int32} {k : Nat} {x : Int32} : upd f k x k = x := if_pos rfl
theorem pk_un {f : Nat → Int32} {k j : Nat} {x : Int32} (h : j ≠ k) : upd f k x j = f j := if_neg h
theorem pk_sub {a b : Nat} (h : b ≤ a) : nI a - nI b = nI (a - b) := by
  obtain ⟨c, rfl⟩ : ∃ c, a = c + b := ⟨a - b, by omega⟩
  rw [← nI_add, Int32.add_sub_cancel, Nat.add_sub_cancel]
theorem pk_m1 (n : Nat) : nI (n + 1) + (-1) = nI n := by
  rw [← nI_1, Int32.add_assoc, show (1 : Int32) + (-1) = 0 from rfl, Int32.add_zero]
theorem pk_mul (a b : Nat) : nI a * nI b = nI (a * b) := (Int32.ofNat_mul a b).symm
theorem pk_div {a d : Nat} (ha : a < 2 ^ 31) (h0 : 0 < d) (hd : d < 2 ^ 31) : nI a / nI d = nI (a / d) := by
  apply Int32.toInt_inj.mp
  rw [lg_idiv_nonneg (by rw [nI_toInt ha]; omega) (by rw [nI_toInt hd]; omega), nI_toInt ha, nI_toInt hd, nI_toInt (Nat.lt_of_le_of_lt (Nat.div_le_self a d) ha)]
  first | rfl | exact (Int.natCast_ediv _ _).symm
theorem pk_rem {a d : Nat} (ha : a < 2 ^ 31) (h0 : 0 < d) (hd : d < 2 ^ 31) : nI a - nI a / nI d * nI d = nI (a % d) := by
  rw [pk_div ha h0 hd, pk_mul, pk_sub (Nat.div_mul_le_self a d)]
  exact congrArg nI (by have := Nat.div_add_mod' a d; omega)
theorem pk_sub_toInt {a b : Nat} (ha : a < 2 ^ 30) (hb : b < 2 ^ 30) : (nI a - nI b).toInt = (a : Int) - b := by
  rw [Int32.toInt_sub, nI_toInt (by omega), nI_toInt (by omega)]
  exact Int.bmod_eq_of_le (by omega) (by omega)
theorem pk_sneg {a b : Nat} (hb : b < 2 ^ 30) (h : a < b) : nI a - nI b < 0 := by
  rw [Int32.lt_iff_toInt_lt, pk_sub_toInt (by omega) hb, show (0 : Int32).toInt = 0 from by decide]
  omega
theorem pk_ix (x : Int32) {n : Nat} (hn : n < 2 ^ 31) : x < 0 ∨ nI n ≤ x ∨ ∃ j : Nat, j < n ∧ x = nI j := by
  by_cases h : x < 0
  · exact Or.inl h
  · obtain ⟨j, hj, rfl⟩ := nI_of h
    by_cases h2 : j < n
    · exact Or.inr (Or.inr ⟨j, h2, rfl⟩)
    · exact Or.inr (Or.inl (nI_le (by omega) hj))
theorem pk_le {x y : Int32} {A B : Prop} (a b : Nat) (f : a ≤ b → A) (g : b < a → B) (hx : x = nI a := by rfl) (hy : y = nI b := by rfl) (ha : a < 2 ^ 31 := by omega) (hb : b < 2 ^ 31 := by omega) : (x ≤ y → A) ∧ (¬ x ≤ y → B) := by
  subst hx hy
  rw [nI_leI ha hb]
  exact ⟨f, fun z => g (by omega)⟩
theorem pk_lt {x y : Int32} {A B : Prop} (a b : Nat) (f : a < b → A) (g : b ≤ a → B) (hx : x = nI a := by rfl) (hy : y = nI b := by rfl) (ha : a < 2 ^ 31 := by omega) (hb : b < 2 ^ 31 := by omega) : (x < y → A) ∧ (¬ x < y → B) := by
  subst hx hy
  rw [nI_ltI ha hb]
  exact ⟨f, fun z => g (by omega)⟩
theorem pk_eq {x y : Int32} {A B : Prop} (a b : Nat) (f : a = b → A) (g : a ≠ b → B) (hx : x = nI a := by rfl) (hy : y = nI b := by rfl) (ha : a < 2 ^ 31 := by omega) (hb : b < 2 ^ 31 := by omega) : (x = y → A) ∧ (¬ x = y → B) := by
  subst hx hy
  rw [nI_eq ha hb]
  exact ⟨f, g⟩
theorem pk_in {x : Int32} (n N : Nat) (h : n < N) (hx : x = nI n := by rfl) (hN : N < 2 ^ 31 := by omega) : vp_in x N := by
  subst hx
  exact vp_in_nI h hN
theorem pk_cl {x : Int32} (n : Nat) (hx : x = nI n := by rfl) (h : n < 2 ^ 31 := by omega) : x.toNatClampNeg = n := by
  subst hx
  exact nI_clamp h
/-! own small rows -/
theorem pb_cl0 : (0 : Int32).toNatClampNeg = 0 := by decide
theorem pb_in0 {N : Nat} (h : 0 < N) (hN : N < 2 ^ 31) : vp_in (0 : Int32) N := by
  have := vp_in_nI h hN
  rwa [nI_0] at this
theorem pb_nI_inj {a b : Nat} (ha : a < 2 ^ 31) (hb : b < 2 ^ 31) (h : nI a = nI b) : a = b := (nI_eq ha hb).mp h
theorem pb_ne {a b : Nat} (ha : a < 2 ^ 31) (hb : b < 2 ^ 31) (h : a ≠ b) : ¬ nI a = nI b := fun z => h ((nI_eq ha hb).mp z)
theorem pb_m1 {n : Nat} (h : 0 < n) : nI n - 1 = nI (n - 1) := by
  obtain ⟨m, rfl⟩ : ∃ m, n = m + 1 := ⟨n - 1, by omega⟩
  rw [nI_pred]; rfl
theorem pb_m2 {n : Nat} (h : 2 ≤ n) : nI n - 2 = nI (n - 2) := by
  have := pk_sub (a := n) (b := 2) h
  exact this
theorem pb_u {f : Nat → Int32} {k : Nat} {x : Int32} {j : Nat} (h : j < k) : upd f k x j = f j := pk_un (by omega)
theorem pb_b0 : vp_nar .boolean 0 = 0 := by rfl
theorem pb_b1 : vp_nar .boolean 1 = 1 := by rfl
theorem pb_bn {x : Int32} (h : x = 0 ∨ x = 1) : narrow .boolean (.int x) = .int x := by
  rcases h with rfl | rfl <;> rfl
theorem pb_bv {x : Int32} (h : x = 0 ∨ x = 1) : vp_nar .boolean x = x := by
  rcases h with rfl | rfl <;> rfl
end
section
/-! ===== the pure meaning of a filter: its whole list of outputs and its ending ===== -/
abbrev PV : Type := Int32 × Int32
/-- an environment: entries (kind, node or slot, tag, value, mark), the newest first -/
abbrev PE : Type := List (Nat × Int32 × Int32 × Int32 × Nat)
abbrev PR : Type := List PV × Option Nat
/-- a program: kinds, arguments, three operands; the document -/
abbrev PG : Type := (Nat → Nat) × (Nat → Int32) × (Nat → Nat) × (Nat → Nat) × (Nat → Nat) × (Nat → Int32) × (Nat → Int32)
def pg_k (p : PG) : Nat → Nat := p.1
def pg_a (p : PG) : Nat → Int32 := p.2.1
def pg_1 (p : PG) : Nat → Nat := p.2.2.1
def pg_2 (p : PG) : Nat → Nat := p.2.2.2.1
def pg_3 (p : PG) : Nat → Nat := p.2.2.2.2.1
def pg_p (p : PG) : Nat → Int32 := p.2.2.2.2.2.1
def pg_n (p : PG) : Nat → Int32 := p.2.2.2.2.2.2
def ps_num (p : PG) (v : PV) : Int32 := if v.1 = 0 then v.2 else pg_n p v.2.toNatClampNeg
def ps_key (k : Int32) (v : PV) : List PV := if k < 0 then [] else if 2 < k then [] else if v.1 = 0 then [] else if v.2 ≤ 12 then [(v.1, 3 * v.2 + 1 + k)] else []
def ps_chs (p : PG) (v : PV) : Nat → Nat → List PV
  | 0, _ => []
  | n + 1, c => if pg_p p (3 * v.2 + 1 + nI c).toNatClampNeg = 0 then ps_chs p v n (c + 1) else (v.1, 3 * v.2 + 1 + nI c) :: ps_chs p v n (c + 1)
def ps_each (p : PG) (v : PV) : List PV := if v.1 = 0 then [] else if 12 < v.2 then [] else ps_chs p v 3 0
/-- the part of the environment that begins with its newest fitting entry -/
def ps_fd (k : Nat) (s : Int32) : PE → PE
  | [] => []
  | x :: e => if x.1 = k ∧ (s < 0 ∨ x.2.1 = s) then x :: e else ps_fd k s e
def ps_hd : PE → PV
  | [] => (0, 0)
  | x :: _ => (x.2.2.1, x.2.2.2.1)
def ps_var (e : PE) (s : Int32) : PV := ps_hd (ps_fd 13 s e)
def ps_sq (r1 r2 : PR) : PR := if r1.2 = none then (r1.1 ++ r2.1, r2.2) else r1
def ps_bnd (z : Option Nat) (g : PV → PR) : List PV → PR
  | [] => ([], z)
  | o :: os => ps_sq (g o) (ps_bnd z g os)
def ps_bv (v : PV) : PV := (if v.1 = 2 then 1 else v.1, v.2)
def ps_cmb (k : Nat) (l n : Int32) : PV := (0, if k = 15 then l + n else if n ≤ l then 0 else 1)
def ps_catch (l : Nat) (r : PR) : PR := (r.1, if r.2 = some l then none else r.2)
def ps_alt (r s : PR) : PR := if r.1 = [] ∧ r.2 = none then s else r
def ps_nz (p : PG) (o : PV) : PR := (if ps_num p o = 0 then [] else [o], none)
def ps_par (E : Nat → PE → PV → PR) (v : PV) : PE → PR
  | [] => ([], none)
  | x :: e => E x.2.1.toNatClampNeg e v
def ps_ev (p : PG) : Nat → Nat → PE → PV → PR
  | 0, _, _, _ => ([], none)
  | n + 1, f, e, v =>
    if pg_k p f = 0 then ([v], none)
    else if pg_k p f = 1 then (ps_key (pg_a p f) v, none)
    else if pg_k p f = 2 then (ps_each p v, none)
    else if pg_k p f = 3 then ([(0, pg_a p f)], none)
    else if pg_k p f = 4 then ([ps_var e (pg_a p f)], none)
    else if pg_k p f = 5 then ([], none)
    else if pg_k p f = 6 then ps_par (fun g e' v' => ps_ev p n g e' v') v (ps_fd 14 (-1) e)
    else if pg_k p f = 7 then ([], some (ps_fd 9 (-1) e).length)
    else if pg_k p f = 8 then ps_bnd (ps_ev p n (pg_1 p f) e v).2 (fun o => (ps_key (ps_num p o) v, none)) (ps_ev p n (pg_1 p f) e v).1
    else if pg_k p f = 9 then ps_catch (e.length + 1) (ps_ev p n (pg_1 p f) ((9, nI f, 0, 0, 0) :: e) v)
    else if pg_k p f = 10 then ps_bnd (ps_ev p n (pg_1 p f) e v).2 (fun o => ps_ev p n (pg_2 p f) e o) (ps_ev p n (pg_1 p f) e v).1
    else if pg_k p f = 11 then ps_sq (ps_ev p n (pg_1 p f) e v) (ps_ev p n (pg_2 p f) e v)
    else if pg_k p f = 12 then ps_alt (ps_bnd (ps_ev p n (pg_1 p f) e v).2 (ps_nz p) (ps_ev p n (pg_1 p f) e v).1) (ps_ev p n (pg_2 p f) e v)
    else if pg_k p f = 13 then ps_bnd (ps_ev p n (pg_1 p f) e v).2 (fun o => ps_ev p n (pg_2 p f) ((13, pg_a p f, (ps_bv o).1, (ps_bv o).2, 0) :: e) v) (ps_ev p n (pg_1 p f) e v).1
    else if pg_k p f = 14 then ps_ev p n (pg_1 p f) ((14, nI (pg_2 p f), 0, 0, 0) :: e) v
    else if pg_k p f = 17 then ps_bnd (ps_ev p n (pg_1 p f) e v).2 (fun o => ps_ev p n (if ps_num p o = 0 then pg_3 p f else pg_2 p f) e v) (ps_ev p n (pg_1 p f) e v).1
    else ps_bnd (ps_ev p n (pg_1 p f) e v).2 (fun o => ((ps_ev p n (pg_2 p f) e v).1.map (fun q => ps_cmb (pg_k p f) (ps_num p o) (ps_num p q)), (ps_ev p n (pg_2 p f) e v).2)) (ps_ev p n (pg_1 p f) e v).1
section
variable {p : PG} {n f : Nat} {e : PE} {v : PV}
theorem ps_ev0 (h : pg_k p f = 0) : ps_ev p (n + 1) f e v = ([v], none) := by rw [ps_ev]; simp only [h, if_true]
theorem ps_ev1 (h : pg_k p f = 1) : ps_ev p (n + 1) f e v = (ps_key (pg_a p f) v, none) := by rw [ps_ev]; simp [h]
theorem ps_ev2 (h : pg_k p f = 2) : ps_ev p (n + 1) f e v = (ps_each p v, none) := by rw [ps_ev]; simp [h]
theorem ps_ev3 (h : pg_k p f = 3) : ps_ev p (n + 1) f e v = ([(0, pg_a p f)], none) := by rw [ps_ev]; simp [h]
theorem ps_ev4 (h : pg_k p f = 4) : ps_ev p (n + 1) f e v = ([ps_var e (pg_a p f)], none) := by rw [ps_ev]; simp [h]
theorem ps_ev5 (h : pg_k p f = 5) : ps_ev p (n + 1) f e v = ([], none) := by rw [ps_ev]; simp [h]
theorem ps_ev6 (h : pg_k p f = 6) : ps_ev p (n + 1) f e v = ps_par (fun g e' v' => ps_ev p n g e' v') v (ps_fd 14 (-1) e) := by rw [ps_ev]; simp [h]
theorem ps_ev7 (h : pg_k p f = 7) : ps_ev p (n + 1) f e v = ([], some (ps_fd 9 (-1) e).length) := by rw [ps_ev]; simp [h]
theorem ps_ev8 (h : pg_k p f = 8) : ps_ev p (n + 1) f e v = ps_bnd (ps_ev p n (pg_1 p f) e v).2 (fun o => (ps_key (ps_num p o) v, none)) (ps_ev p n (pg_1 p f) e v).1 := by rw [ps_ev]; simp [h]
theorem ps_ev9 (h : pg_k p f = 9) : ps_ev p (n + 1) f e v = ps_catch (e.length + 1) (ps_ev p n (pg_1 p f) ((9, nI f, 0, 0, 0) :: e) v) := by rw [ps_ev]; simp [h]
theorem ps_ev10 (h : pg_k p f = 10) : ps_ev p (n + 1) f e v = ps_bnd (ps_ev p n (pg_1 p f) e v).2 (fun o => ps_ev p n (pg_2 p f) e o) (ps_ev p n (pg_1 p f) e v).1 := by rw [ps_ev]; simp [h]
theorem ps_ev11 (h : pg_k p f = 11) : ps_ev p (n + 1) f e v = ps_sq (ps_ev p n (pg_1 p f) e v) (ps_ev p n (pg_2 p f) e v) := by rw [ps_ev]; simp [h]
theorem ps_ev12 (h : pg_k p f = 12) : ps_ev p (n + 1) f e v = ps_alt (ps_bnd (ps_ev p n (pg_1 p f) e v).2 (ps_nz p) (ps_ev p n (pg_1 p f) e v).1) (ps_ev p n (pg_2 p f) e v) := by rw [ps_ev]; simp [h]
theorem ps_ev13 (h : pg_k p f = 13) : ps_ev p (n + 1) f e v = ps_bnd (ps_ev p n (pg_1 p f) e v).2 (fun o => ps_ev p n (pg_2 p f) ((13, pg_a p f, (ps_bv o).1, (ps_bv o).2, 0) :: e) v) (ps_ev p n (pg_1 p f) e v).1 := by rw [ps_ev]; simp [h]
theorem ps_ev14 (h : pg_k p f = 14) : ps_ev p (n + 1) f e v = ps_ev p n (pg_1 p f) ((14, nI (pg_2 p f), 0, 0, 0) :: e) v := by rw [ps_ev]; simp [h]
theorem ps_ev17 (h : pg_k p f = 17) : ps_ev p (n + 1) f e v = ps_bnd (ps_ev p n (pg_1 p f) e v).2 (fun o => ps_ev p n (if ps_num p o = 0 then pg_3 p f else pg_2 p f) e v) (ps_ev p n (pg_1 p f) e v).1 := by rw [ps_ev]; simp [h]
theorem ps_evR (h : 14 < pg_k p f) (h2 : pg_k p f ≠ 17) : ps_ev p (n + 1) f e v = ps_bnd (ps_ev p n (pg_1 p f) e v).2 (fun o => ((ps_ev p n (pg_2 p f) e v).1.map (fun q => ps_cmb (pg_k p f) (ps_num p o) (ps_num p q)), (ps_ev p n (pg_2 p f) e v).2)) (ps_ev p n (pg_1 p f) e v).1 := by
  rw [ps_ev, if_neg (by omega), if_neg (by omega), if_neg (by omega), if_neg (by omega), if_neg (by omega), if_neg (by omega), if_neg (by omega), if_neg (by omega), if_neg (by omega), if_neg (by omega), if_neg (by omega), if_neg (by omega), if_neg (by omega), if_neg (by omega), if_neg (by omega), if_neg h2]
theorem ps_ev15 (h : pg_k p f = 15 ∨ pg_k p f = 16) : ps_ev p (n + 1) f e v = ps_bnd (ps_ev p n (pg_1 p f) e v).2 (fun o => ((ps_ev p n (pg_2 p f) e v).1.map (fun q => ps_cmb (pg_k p f) (ps_num p o) (ps_num p q)), (ps_ev p n (pg_2 p f) e v).2)) (ps_ev p n (pg_1 p f) e v).1 := ps_evR (by omega) (by omega)
end
/-! weights -/
def ps_iwe (p : PG) (iw : Nat → Nat → Nat) (f q : Nat) : Nat :=
  if pg_k p f = 2 then 3 else if pg_k p f = 6 then 1 + q else if pg_k p f < 8 then 1 else if pg_k p f < 10 then 1 + iw (pg_1 p f) q
  else if pg_k p f = 14 then 1 + iw (pg_1 p f) (iw (pg_2 p f) q) else if pg_k p f < 17 then 1 + iw (pg_1 p f) q + iw (pg_2 p f) q
  else 1 + iw (pg_1 p f) q + iw (pg_2 p f) q + iw (pg_3 p f) q
/-- a program of T tokens, well formed -/
def ps_ok (p : PG) (iw : Nat → Nat → Nat) (T : Nat) : Prop := T ≤ 32 ∧ ∀ f, f < T → pg_k p f ≤ 17 ∧ (8 ≤ pg_k p f → pg_1 p f < f) ∧ (10 ≤ pg_k p f → pg_2 p f < f) ∧ (pg_k p f = 17 → pg_3 p f < f) ∧ (∀ q, iw f q = ps_iwe p iw f q)
def ps_pe (iw : Nat → Nat → Nat) : PE → Nat
  | [] => 0
  | x :: e => if x.1 = 14 then iw x.2.1.toNatClampNeg (ps_pe iw e) else ps_pe iw e
def ps_eok (T : Nat) (e : PE) : Prop := ∀ x, x ∈ e → x.1 = 14 → x.2.1.toNatClampNeg < T
theorem ps_fd_nil {T : Nat} {iw : Nat → Nat → Nat} : ∀ {e : PE}, ps_fd 14 (-1) e = [] → ps_pe iw e = 0
  | [], _ => rfl
  | x :: e, h => by
    rw [ps_fd] at h
    by_cases hx : x.1 = 14
    · rw [if_pos ⟨hx, Or.inl (by decide)⟩] at h; cases h
    · rw [if_neg (fun z => hx z.1)] at h
      rw [ps_pe, if_neg hx]; exact ps_fd_nil (T := T) h
theorem ps_fd_cons {T : Nat} {iw : Nat → Nat → Nat} {x : Nat × Int32 × Int32 × Int32 × Nat} {e' : PE} : ∀ {e : PE}, ps_fd 14 (-1) e = x :: e' → ps_eok T e → ps_pe iw e = iw x.2.1.toNatClampNeg (ps_pe iw e') ∧ ps_eok T e' ∧ x.2.1.toNatClampNeg < T
  | [], h, _ => by cases h
  | y :: e, h, ho => by
    rw [ps_fd] at h
    by_cases hx : y.1 = 14
    · rw [if_pos ⟨hx, Or.inl (by decide)⟩] at h; cases h
      exact ⟨by rw [ps_pe, if_pos hx], fun z hz => ho z (List.mem_cons_of_mem _ hz), ho _ List.mem_cons_self hx⟩
    · rw [if_neg (fun z => hx z.1)] at h
      rw [ps_pe, if_neg hx]
      exact ps_fd_cons h (fun z hz => ho z (List.mem_cons_of_mem _ hz))
theorem ps_iw_pos {p : PG} {iw : Nat → Nat → Nat} {T f q : Nat} (h : ps_ok p iw T) (hf : f < T) : 1 ≤ iw f q := by
  rw [(h.2 f hf).2.2.2.2 q, ps_iwe]
  repeat' split
  all_goals omega
section
variable {p : PG} {iw : Nat → Nat → Nat} {T f q : Nat}
theorem ps_iw2 (ok : ps_ok p iw T) (hf : f < T) (h : pg_k p f = 2) : iw f q = 3 := by rw [(ok.2 f hf).2.2.2.2 q, ps_iwe]; simp [h]
theorem ps_iw6 (ok : ps_ok p iw T) (hf : f < T) (h : pg_k p f = 6) : iw f q = 1 + q := by rw [(ok.2 f hf).2.2.2.2 q, ps_iwe]; simp [h]
theorem ps_iw8 (ok : ps_ok p iw T) (hf : f < T) (h : pg_k p f = 8 ∨ pg_k p f = 9) : iw f q = 1 + iw (pg_1 p f) q := by
  rw [(ok.2 f hf).2.2.2.2 q, ps_iwe]; rcases h with h | h <;> simp [h]
theorem ps_iw14 (ok : ps_ok p iw T) (hf : f < T) (h : pg_k p f = 14) : iw f q = 1 + iw (pg_1 p f) (iw (pg_2 p f) q) := by rw [(ok.2 f hf).2.2.2.2 q, ps_iwe]; simp [h]
theorem ps_iw10 (ok : ps_ok p iw T) (hf : f < T) (h : 10 ≤ pg_k p f) (h1 : pg_k p f < 17) (h2 : pg_k p f ≠ 14) : iw f q = 1 + iw (pg_1 p f) q + iw (pg_2 p f) q := by
  rw [(ok.2 f hf).2.2.2.2 q, ps_iwe, if_neg (by omega), if_neg (by omega), if_neg (by omega), if_neg (by omega), if_neg h2, if_pos h1]
theorem ps_iw17 (ok : ps_ok p iw T) (hf : f < T) (h : pg_k p f = 17) : iw f q = 1 + iw (pg_1 p f) q + iw (pg_2 p f) q + iw (pg_3 p f) q := by rw [(ok.2 f hf).2.2.2.2 q, ps_iwe]; simp [h]
theorem ps_c1 (ok : ps_ok p iw T) (hf : f < T) (h : 8 ≤ pg_k p f) : pg_1 p f < T := Nat.lt_trans ((ok.2 f hf).2.1 h) hf
theorem ps_c2 (ok : ps_ok p iw T) (hf : f < T) (h : 10 ≤ pg_k p f) : pg_2 p f < T := Nat.lt_trans ((ok.2 f hf).2.2.1 h) hf
theorem ps_c3 (ok : ps_ok p iw T) (hf : f < T) (h : pg_k p f = 17) : pg_3 p f < T := Nat.lt_trans ((ok.2 f hf).2.2.2.1 h) hf
end
theorem ps_kinds {k : Nat} (h : k ≤ 17) : k = 0 ∨ k = 1 ∨ k = 2 ∨ k = 3 ∨ k = 4 ∨ k = 5 ∨ k = 6 ∨ k = 7 ∨ k = 8 ∨ k = 9 ∨ k = 10 ∨ k = 11 ∨ k = 12 ∨ k = 13 ∨ k = 14 ∨ (k = 15 ∨ k = 16) ∨ k = 17 := by omega
theorem ps_kindsA (k : Nat) : k = 0 ∨ k = 1 ∨ k = 2 ∨ k = 3 ∨ k = 4 ∨ k = 5 ∨ k = 6 ∨ k = 7 ∨ k = 8 ∨ k = 9 ∨ k = 10 ∨ k = 11 ∨ k = 12 ∨ k = 13 ∨ k = 14 ∨ (14 < k ∧ k ≠ 17) ∨ k = 17 := by omega
end
section
/-! ===== the machine without a heap: environments and continuations are lists; forks, the newest first ===== -/
/-- a frame: tag, node, environment, value, index of a fork -/
abbrev AF : Type := Nat × Nat × PE × PV × Nat
/-- a fork: node, environment, continuation, value, count -/
abbrev AK : Type := Nat × PE × List AF × PV × Nat
abbrev AC : Type := Nat × Nat × PE × List AF × PV × List AK
def am_E (f : Nat) (e : PE) (v : PV) (k : List AF) (F : List AK) : AC := (0, f, e, k, v, F)
def am_G (v : PV) (k : List AF) (F : List AK) : AC := (1, 0, [], k, v, F)
def am_B (F : List AK) : AC := (2, 0, [], [], (0, 0), F)
def am_D (v : PV) (F : List AK) : AC := (3, 0, [], [], v, F)
def am_N : AC := (4, 0, [], [], (0, 0), [])
def am_ct (m : Nat) (F : List AK) : List AK := F.drop (F.length - m)
def am_sf (m : Nat) : List AK → List AK
  | [] => []
  | x :: F => if F.length = m then (x.1, x.2.1, x.2.2.1, x.2.2.2.1, 1) :: F else x :: am_sf m F
def am_one (k : List AF) (F : List AK) : List PV → AC
  | [] => am_B F
  | o :: _ => am_G o k F
def am_nc (p : PG) (v : PV) : Nat → Nat → Nat
  | 0, c => c
  | n + 1, c => if pg_p p (3 * v.2 + 1 + nI c).toNatClampNeg = 0 then am_nc p v n (c + 1) else c
def am_par (v : PV) (k : List AF) (F : List AK) : PE → AC
  | [] => am_B F
  | x :: e => am_E x.2.1.toNatClampNeg e v k F
def am_brk (F : List AK) : PE → AC
  | [] => am_B []
  | x :: _ => am_B (am_ct x.2.2.2.2 F)
def am_ev (p : PG) (f : Nat) (e : PE) (v : PV) (k : List AF) (F : List AK) : AC :=
  if pg_k p f = 0 then am_G v k F
  else if pg_k p f = 1 then am_one k F (ps_key (pg_a p f) v)
  else if pg_k p f = 2 then (if v.1 = 0 then am_B F else if 12 < v.2 then am_B F else am_B ((f, e, k, v, 0) :: F))
  else if pg_k p f = 3 then am_G (0, pg_a p f) k F
  else if pg_k p f = 4 then am_G (ps_var e (pg_a p f)) k F
  else if pg_k p f = 5 then am_B F
  else if pg_k p f = 6 then am_par v k F (ps_fd 14 (-1) e)
  else if pg_k p f = 7 then am_brk F (ps_fd 9 (-1) e)
  else if pg_k p f = 9 then am_E (pg_1 p f) ((9, nI f, 0, 0, F.length) :: e) v k F
  else if pg_k p f = 11 then am_E (pg_1 p f) e v k ((f, e, k, v, 0) :: F)
  else if pg_k p f = 12 then am_E (pg_1 p f) e v ((12, f, e, v, F.length) :: k) ((f, e, k, v, 0) :: F)
  else if pg_k p f = 14 then am_E (pg_1 p f) ((14, nI (pg_2 p f), 0, 0, 0) :: e) v k F
  else am_E (pg_1 p f) e v ((pg_k p f, f, e, v, 0) :: k) F
def am_gv (p : PG) (v : PV) : List AF → List AK → AC
  | [], F => am_D v F
  | q :: k, F =>
    if q.1 = 8 then am_one k F (ps_key (ps_num p v) q.2.2.2.1)
    else if q.1 = 10 then am_E (pg_2 p q.2.1) q.2.2.1 v k F
    else if q.1 = 12 then (if ps_num p v = 0 then am_B F else am_G v k (am_sf q.2.2.2.2 F))
    else if q.1 = 13 then am_E (pg_2 p q.2.1) ((13, pg_a p q.2.1, (ps_bv v).1, (ps_bv v).2, 0) :: q.2.2.1) q.2.2.2.1 k F
    else if q.1 = 15 then am_E (pg_2 p q.2.1) q.2.2.1 q.2.2.2.1 ((18, 0, [], (0, ps_num p v), 0) :: k) F
    else if q.1 = 16 then am_E (pg_2 p q.2.1) q.2.2.1 q.2.2.2.1 ((19, 0, [], (0, ps_num p v), 0) :: k) F
    else if q.1 = 17 then am_E (if ps_num p v = 0 then pg_3 p q.2.1 else pg_2 p q.2.1) q.2.2.1 q.2.2.2.1 k F
    else if q.1 = 18 then am_G (ps_cmb 15 q.2.2.2.1.2 (ps_num p v)) k F
    else am_G (ps_cmb 16 q.2.2.2.1.2 (ps_num p v)) k F
def am_bk (p : PG) : List AK → AC
  | [] => am_N
  | x :: F =>
    if pg_k p x.1 = 2 then
      (if am_nc p x.2.2.2.1 (3 - x.2.2.2.2) x.2.2.2.2 < 3 then
        am_G (x.2.2.2.1.1, 3 * x.2.2.2.1.2 + 1 + nI (am_nc p x.2.2.2.1 (3 - x.2.2.2.2) x.2.2.2.2)) x.2.2.1 ((x.1, x.2.1, x.2.2.1, x.2.2.2.1, am_nc p x.2.2.2.1 (3 - x.2.2.2.2) x.2.2.2.2 + 1) :: F)
      else am_B F)
    else if x.2.2.2.2 = 0 then am_E (pg_2 p x.1) x.2.1 x.2.2.2.1 x.2.2.1 F
    else am_B F
section
variable {p : PG} {v u : PV} {nd ix : Nat} {e : PE} {k : List AF} {F : List AK}
theorem am_gv8 : am_gv p v ((8, nd, e, u, ix) :: k) F = am_one k F (ps_key (ps_num p v) u) := rfl
theorem am_gv10 : am_gv p v ((10, nd, e, u, ix) :: k) F = am_E (pg_2 p nd) e v k F := rfl
theorem am_gv12 : am_gv p v ((12, nd, e, u, ix) :: k) F = (if ps_num p v = 0 then am_B F else am_G v k (am_sf ix F)) := rfl
theorem am_gv13 : am_gv p v ((13, nd, e, u, ix) :: k) F = am_E (pg_2 p nd) ((13, pg_a p nd, (ps_bv v).1, (ps_bv v).2, 0) :: e) u k F := rfl
theorem am_gv15 : am_gv p v ((15, nd, e, u, ix) :: k) F = am_E (pg_2 p nd) e u ((18, 0, [], (0, ps_num p v), 0) :: k) F := rfl
theorem am_gv16 : am_gv p v ((16, nd, e, u, ix) :: k) F = am_E (pg_2 p nd) e u ((19, 0, [], (0, ps_num p v), 0) :: k) F := rfl
theorem am_gv17 : am_gv p v ((17, nd, e, u, ix) :: k) F = am_E (if ps_num p v = 0 then pg_3 p nd else pg_2 p nd) e u k F := rfl
theorem am_gv18 : am_gv p v ((18, nd, e, u, ix) :: k) F = am_G (ps_cmb 15 u.2 (ps_num p v)) k F := rfl
theorem am_gv19 : am_gv p v ((19, nd, e, u, ix) :: k) F = am_G (ps_cmb 16 u.2 (ps_num p v)) k F := rfl
theorem am_bk_c {f c : Nat} : am_bk p ((f, e, k, v, c) :: F) = (if pg_k p f = 2 then
      (if am_nc p v (3 - c) c < 3 then am_G (v.1, 3 * v.2 + 1 + nI (am_nc p v (3 - c) c)) k ((f, e, k, v, am_nc p v (3 - c) c + 1) :: F) else am_B F)
    else if c = 0 then am_E (pg_2 p f) e v k F else am_B F) := rfl
end
section
variable {p : PG} {f : Nat} {e : PE} {v : PV} {k : List AF} {F : List AK}
theorem am_ev0 (c : pg_k p f = 0) : am_ev p f e v k F = am_G v k F := by rw [am_ev, if_pos c]
theorem am_ev1 (c : pg_k p f = 1) : am_ev p f e v k F = am_one k F (ps_key (pg_a p f) v) := by rw [am_ev]; simp only [c]; rfl
theorem am_ev2 (c : pg_k p f = 2) : am_ev p f e v k F = (if v.1 = 0 then am_B F else if 12 < v.2 then am_B F else am_B ((f, e, k, v, 0) :: F)) := by rw [am_ev]; simp only [c]; rfl
theorem am_ev3 (c : pg_k p f = 3) : am_ev p f e v k F = am_G (0, pg_a p f) k F := by rw [am_ev]; simp only [c]; rfl
theorem am_ev4 (c : pg_k p f = 4) : am_ev p f e v k F = am_G (ps_var e (pg_a p f)) k F := by rw [am_ev]; simp only [c]; rfl
theorem am_ev5 (c : pg_k p f = 5) : am_ev p f e v k F = am_B F := by rw [am_ev]; simp only [c]; rfl
theorem am_ev6 (c : pg_k p f = 6) : am_ev p f e v k F = am_par v k F (ps_fd 14 (-1) e) := by rw [am_ev]; simp only [c]; rfl
theorem am_ev7 (c : pg_k p f = 7) : am_ev p f e v k F = am_brk F (ps_fd 9 (-1) e) := by rw [am_ev]; simp only [c]; rfl
theorem am_ev9 (c : pg_k p f = 9) : am_ev p f e v k F = am_E (pg_1 p f) ((9, nI f, 0, 0, F.length) :: e) v k F := by rw [am_ev]; simp only [c]; rfl
theorem am_ev11 (c : pg_k p f = 11) : am_ev p f e v k F = am_E (pg_1 p f) e v k ((f, e, k, v, 0) :: F) := by rw [am_ev]; simp only [c]; rfl
theorem am_ev12 (c : pg_k p f = 12) : am_ev p f e v k F = am_E (pg_1 p f) e v ((12, f, e, v, F.length) :: k) ((f, e, k, v, 0) :: F) := by rw [am_ev]; simp only [c]; rfl
theorem am_ev14 (c : pg_k p f = 14) : am_ev p f e v k F = am_E (pg_1 p f) ((14, nI (pg_2 p f), 0, 0, 0) :: e) v k F := by rw [am_ev]; simp only [c]; rfl
theorem am_evR (c : 8 ≤ pg_k p f) (c1 : pg_k p f ≠ 9) (c2 : pg_k p f ≠ 11) (c3 : pg_k p f ≠ 12) (c4 : pg_k p f ≠ 14) : am_ev p f e v k F = am_E (pg_1 p f) e v ((pg_k p f, f, e, v, 0) :: k) F := by
  rw [am_ev, if_neg (by omega), if_neg (by omega), if_neg (by omega), if_neg (by omega), if_neg (by omega), if_neg (by omega), if_neg (by omega), if_neg (by omega), if_neg c1, if_neg c2, if_neg c3, if_neg c4]
end
/-- c comes to d -/
def am_rc (p : PG) (c d : AC) : Prop := ∀ S : AC → Prop, (∀ f e v k F, S (am_ev p f e v k F) → S (am_E f e v k F)) → (∀ v k F, S (am_gv p v k F) → S (am_G v k F)) → (∀ F, S (am_bk p F) → S (am_B F)) → S d → S c
section
variable {p : PG} {c d c' : AC}
theorem am_rf : am_rc p c c := fun _ _ _ _ h => h
theorem am_tr (a : am_rc p c d) (b : am_rc p d c') : am_rc p c c' := fun S h1 h2 h3 h => a S h1 h2 h3 (b S h1 h2 h3 h)
theorem am_sE {f : Nat} {e : PE} {v : PV} {k : List AF} {F : List AK} (h : am_rc p (am_ev p f e v k F) d) : am_rc p (am_E f e v k F) d := fun S h1 h2 h3 hd => h1 _ _ _ _ _ (h S h1 h2 h3 hd)
theorem am_sG {v : PV} {k : List AF} {F : List AK} (h : am_rc p (am_gv p v k F) d) : am_rc p (am_G v k F) d := fun S h1 h2 h3 hd => h2 _ _ _ (h S h1 h2 h3 hd)
theorem am_sB {F : List AK} (h : am_rc p (am_bk p F) d) : am_rc p (am_B F) d := fun S h1 h2 h3 hd => h3 _ (h S h1 h2 h3 hd)
end
theorem am_ct_len {m : Nat} {F : List AK} (h : F.length = m) : am_ct m F = F := by rw [am_ct, h, Nat.sub_self]; rfl
theorem am_ct_app {m : Nat} {X F : List AK} (h : m ≤ F.length) : am_ct m (X ++ F) = am_ct m F := by
  rw [am_ct, am_ct, List.length_append, show X.length + F.length - m = X.length + (F.length - m) by omega, List.drop_append]
  rw [List.drop_of_length_le (by omega)]
  rw [show X.length + (F.length - m) - X.length = F.length - m by omega]; rfl
theorem am_ct_0 {F : List AK} : am_ct 0 F = [] := by rw [am_ct]; simp
theorem am_sf_app {x : AK} {F : List AK} : ∀ {X : List AK}, am_sf F.length (X ++ x :: F) = X ++ (x.1, x.2.1, x.2.2.1, x.2.2.2.1, 1) :: F
  | [] => by show am_sf F.length (x :: F) = _; rw [am_sf, if_pos rfl]; rfl
  | y :: X => by
    show am_sf F.length (y :: (X ++ x :: F)) = _
    rw [am_sf, if_neg (by simp; omega), am_sf_app]; rfl
/-- a generator over any forks of this number: gives these values to k, one at each coming back, and ends by going back with m forks left -/
def am_gen (p : PG) (k : List AF) (n m : Nat) : List PV → (List AK → AC) → Prop
  | [], s => ∀ F : List AK, F.length = n → am_rc p (s F) (am_B (am_ct m F))
  | o :: os, s => ∃ X : List AK, (∀ F : List AK, F.length = n → am_rc p (s F) (am_G o k (X ++ F))) ∧ am_gen p k n m os (fun F => am_B (X ++ F))
section
variable {p : PG} {k k1 : List AF} {n m : Nat}
theorem am_gpre : ∀ {l : List PV} {s s' : List AK → AC}, (∀ F, F.length = n → am_rc p (s F) (s' F)) → am_gen p k n m l s' → am_gen p k n m l s
  | [], _, _, h, g => fun F hF => am_tr (h F hF) (g F hF)
  | _ :: _, _, _, h, ⟨X, a, b⟩ => ⟨X, fun F hF => am_tr (h F hF) (a F hF), b⟩
theorem am_gsh {X : List AK} {r : List PV} : ∀ {l : List PV} {s : List AK → AC}, am_gen p k (X.length + n) (X.length + n) l s → am_gen p k n m r (fun F => am_B (X ++ F)) → am_gen p k n m (l ++ r) (fun F => s (X ++ F))
  | [], s, g, h => am_gpre (fun F hF => by
      have hl : (X ++ F).length = X.length + n := by rw [List.length_append, hF]
      have := g (X ++ F) hl
      rwa [am_ct_len hl] at this) h
  | o :: os, s, ⟨Y, a, b⟩, h => ⟨Y ++ X, fun F hF => by
      rw [List.append_assoc]; exact a (X ++ F) (by rw [List.length_append, hF]), by
      have := am_gsh (s := fun F => am_B (Y ++ F)) b h
      show am_gen p k n m (os ++ r) (fun F => am_B (Y ++ X ++ F))
      simpa only [List.append_assoc] using this⟩
theorem am_gcut {X : List AK} (hm : m ≤ n) : ∀ {l : List PV} {s : List AK → AC}, am_gen p k (X.length + n) m l s → am_gen p k n m l (fun F => s (X ++ F))
  | [], s, g => fun F hF => by
      have := g (X ++ F) (by rw [List.length_append, hF])
      rwa [am_ct_app (by omega)] at this
  | o :: os, s, ⟨Y, a, b⟩ => ⟨Y ++ X, fun F hF => by
      rw [List.append_assoc]; exact a (X ++ F) (by rw [List.length_append, hF]), by
      have := am_gcut hm (s := fun F => am_B (Y ++ F)) b
      simpa only [List.append_assoc] using this⟩
theorem am_g0 {s : List AK → AC} (h : ∀ F, F.length = n → am_rc p (s F) (am_B F)) : am_gen p k n n [] s := fun F hF => by
  rw [am_ct_len hF]; exact h F hF
theorem am_g1 {o : PV} {s : List AK → AC} (h : ∀ F, F.length = n → am_rc p (s F) (am_G o k F)) : am_gen p k n n [o] s :=
  ⟨[], h, am_g0 fun _ _ => am_rf⟩
theorem am_gone {l : List PV} {s : List AK → AC} (hl : l.length ≤ 1) (h : ∀ F, F.length = n → am_rc p (s F) (am_one k F l)) : am_gen p k n n l s := by
  match l, hl, h with
  | [], _, h => exact am_g0 h
  | [o], _, h => exact am_g1 h
theorem am_gmap {g : PV → PV} (hg : ∀ o F, am_rc p (am_G o k1 F) (am_G (g o) k F)) : ∀ {l : List PV} {s : List AK → AC}, am_gen p k1 n m l s → am_gen p k n m (l.map g) s
  | [], _, h => h
  | _ :: _, _, ⟨X, a, b⟩ => ⟨X, fun F hF => am_tr (a F hF) (hg _ _), am_gmap hg b⟩
end
/-! marks of labels -/
def ps_mk : PE → Nat → Nat
  | [], _ => 0
  | x :: e, l => if x.1 = 9 ∧ l = e.length + 1 then x.2.2.2.2 else ps_mk e l
def am_rz (e : PE) (n : Nat) : Option Nat → Nat
  | none => n
  | some l => ps_mk e l
def ps_isl : PE → Nat → Prop
  | [], l => l = 0
  | x :: e, l => (x.1 = 9 ∧ l = e.length + 1) ∨ ps_isl e l
theorem ps_isl_le : ∀ {e : PE} {l : Nat}, ps_isl e l → l ≤ e.length
  | [], _, h => by cases h; exact Nat.le_refl _
  | x :: e, l, h => by
    rcases h with h | h
    · rw [List.length_cons]; omega
    · have := ps_isl_le h; rw [List.length_cons]; omega
theorem ps_mk_gt : ∀ {e : PE} {l : Nat}, e.length < l → ps_mk e l = 0
  | [], _, _ => rfl
  | x :: e, l, h => by
    rw [List.length_cons] at h
    rw [ps_mk, if_neg (by omega)]; exact ps_mk_gt (by omega)
theorem ps_mk_0 : ∀ {e : PE}, ps_mk e 0 = 0
  | [] => rfl
  | x :: e => by rw [ps_mk, if_neg (by omega)]; exact ps_mk_0
theorem ps_fd_len {k : Nat} {s : Int32} : ∀ {e : PE}, (ps_fd k s e).length ≤ e.length
  | [] => Nat.le_refl _
  | x :: e => by
    rw [ps_fd]; split
    · exact Nat.le_refl _
    · have := ps_fd_len (k := k) (s := s) (e := e); rw [List.length_cons]; omega
theorem ps_fd_mk {k : Nat} {s : Int32} : ∀ {e : PE} {l : Nat}, l ≤ (ps_fd k s e).length → ps_mk (ps_fd k s e) l = ps_mk e l
  | [], _, _ => rfl
  | x :: e, l, h => by
    rw [ps_fd] at h ⊢
    split at h
    · rename_i hc; rw [if_pos hc]
    · rename_i hc; rw [if_neg hc]
      have := ps_fd_len (k := k) (s := s) (e := e)
      rw [ps_mk, if_neg (by omega)]; exact ps_fd_mk h
theorem ps_fd_isl {k : Nat} {s : Int32} : ∀ {e : PE} {l : Nat}, ps_isl (ps_fd k s e) l → ps_isl e l
  | [], _, h => h
  | x :: e, l, h => by
    rw [ps_fd] at h
    split at h
    · exact h
    · exact Or.inr (ps_fd_isl h)
theorem ps_isl_0 : ∀ {e : PE}, ps_isl e 0
  | [] => rfl
  | _ :: _ => Or.inr ps_isl_0
theorem ps_fd_9 : ∀ {e : PE}, ps_isl e (ps_fd 9 (-1) e).length
  | [] => rfl
  | x :: e => by
    rw [ps_fd]; split
    · rename_i hc; exact Or.inl ⟨hc.1, rfl⟩
    · exact Or.inr ps_fd_9
theorem ps_fd_hd {k : Nat} {s : Int32} {y : Nat × Int32 × Int32 × Int32 × Nat} {e' : PE} : ∀ {e : PE}, ps_fd k s e = y :: e' → y.1 = k ∧ y ∈ e
  | [], h => by cases h
  | x :: e, h => by
    rw [ps_fd] at h
    split at h
    · rename_i hc; cases h; exact ⟨hc.1, List.mem_cons_self⟩
    · have := ps_fd_hd h; exact ⟨this.1, List.mem_cons_of_mem _ this.2⟩
theorem ps_fd_sub {k : Nat} {s : Int32} {y : Nat × Int32 × Int32 × Int32 × Nat} {e' : PE} : ∀ {e : PE}, ps_fd k s e = y :: e' → (∀ l, ps_mk e' l = 0 ∨ (ps_mk e' l = ps_mk e l ∧ l ≤ e'.length)) ∧ (∀ l, ps_isl e' l → ps_isl e l) := by
  intro e h
  constructor
  · intro l
    by_cases hl : l ≤ e'.length
    · refine Or.inr ⟨?_, hl⟩
      rw [← ps_fd_mk (k := k) (s := s) (e := e) (by rw [h, List.length_cons]; omega), h, ps_mk, if_neg (by omega)]
    · exact Or.inl (ps_mk_gt (by omega))
  · intro l hl
    apply ps_fd_isl (k := k) (s := s)
    rw [h]; exact Or.inr hl
/-! endings name labels of the environment -/
theorem ps_bnd_2 {z : Option Nat} {g : PV → PR} {l : Nat} : ∀ {as : List PV}, (ps_bnd z g as).2 = some l → z = some l ∨ ∃ o, (g o).2 = some l
  | [], h => Or.inl h
  | o :: os, h => by
    rw [ps_bnd, ps_sq] at h
    split at h
    · exact ps_bnd_2 h
    · exact Or.inr ⟨o, h⟩
theorem ps_nz_2 {p : PG} {z : Option Nat} : ∀ {as : List PV}, (ps_bnd z (ps_nz p) as).2 = z
  | [] => rfl
  | o :: os => by rw [ps_bnd, ps_sq, if_pos (show (ps_nz p o).2 = none from rfl)]; exact ps_nz_2
theorem ps_nz_c {p : PG} {z : Option Nat} {o : PV} {os : List PV} : ps_bnd z (ps_nz p) (o :: os) = ((if ps_num p o = 0 then [] else [o]) ++ (ps_bnd z (ps_nz p) os).1, (ps_bnd z (ps_nz p) os).2) := by
  rw [ps_bnd, ps_sq, if_pos (show (ps_nz p o).2 = none from rfl)]; rfl
theorem ps_ev_isl {p : PG} : ∀ (N f : Nat) (e : PE) (v : PV) (l : Nat), (ps_ev p N f e v).2 = some l → ps_isl e l := by
  intro N
  induction N with
  | zero => intro f e v l h; cases h
  | succ N ih =>
    intro f e v l h
    rcases ps_kindsA (pg_k p f) with c | c | c | c | c | c | c | c | c | c | c | c | c | c | c | c | c
    · rw [ps_ev0 c] at h; cases h
    · rw [ps_ev1 c] at h; cases h
    · rw [ps_ev2 c] at h; cases h
    · rw [ps_ev3 c] at h; cases h
    · rw [ps_ev4 c] at h; cases h
    · rw [ps_ev5 c] at h; cases h
    · rw [ps_ev6 c] at h
      cases hf : ps_fd 14 (-1) e with
      | nil => rw [hf] at h; cases h
      | cons x e' => rw [hf] at h; exact (ps_fd_sub hf).2 l (ih _ _ _ _ h)
    · rw [ps_ev7 c] at h; cases h; exact ps_fd_9
    · rw [ps_ev8 c] at h
      rcases ps_bnd_2 h with h | ⟨o, h⟩
      · exact ih _ _ _ _ h
      · cases h
    · rw [ps_ev9 c, ps_catch] at h
      dsimp only at h
      split at h
      · cases h
      · rename_i hn
        rcases ih _ _ _ _ h with ⟨_, q⟩ | q
        · exact absurd (by rw [h, q]) hn
        · exact q
    · rw [ps_ev10 c] at h
      rcases ps_bnd_2 h with h | ⟨o, h⟩ <;> exact ih _ _ _ _ h
    · rw [ps_ev11 c, ps_sq] at h
      split at h <;> exact ih _ _ _ _ h
    · rw [ps_ev12 c, ps_alt] at h
      split at h
      · exact ih _ _ _ _ h
      · rw [ps_nz_2] at h; exact ih _ _ _ _ h
    · rw [ps_ev13 c] at h
      rcases ps_bnd_2 h with h | ⟨o, h⟩
      · exact ih _ _ _ _ h
      · rcases ih _ _ _ _ h with ⟨q, _⟩ | q
        · cases q
        · exact q
    · rw [ps_ev14 c] at h
      rcases ih _ _ _ _ h with ⟨q, _⟩ | q
      · cases q
      · exact q
    · rw [ps_evR c.1 c.2] at h
      rcases ps_bnd_2 h with h | ⟨o, h⟩ <;> exact ih _ _ _ _ h
    · rw [ps_ev17 c] at h
      rcases ps_bnd_2 h with h | ⟨o, h⟩ <;> exact ih _ _ _ _ h
end
section
/-! ===== the machine generates the list that the pure meaning says ===== -/
def ps_er (e : PE) : PE := e.map (fun x => (x.1, x.2.1, x.2.2.1, x.2.2.2.1, 0))
theorem ps_er_c {x : Nat × Int32 × Int32 × Int32 × Nat} {e : PE} : ps_er (x :: e) = (x.1, x.2.1, x.2.2.1, x.2.2.2.1, 0) :: ps_er e := rfl
theorem ps_er_len {e : PE} : (ps_er e).length = e.length := List.length_map ..
theorem ps_er_fd {k : Nat} {s : Int32} : ∀ {e : PE}, ps_fd k s (ps_er e) = ps_er (ps_fd k s e)
  | [] => rfl
  | x :: e => by
    rw [ps_er_c, ps_fd, ps_fd]
    dsimp only
    split
    · rfl
    · exact ps_er_fd
theorem ps_er_hd : ∀ {e : PE}, ps_hd (ps_er e) = ps_hd e
  | [] => rfl
  | _ :: _ => rfl
theorem ps_er_isl {l : Nat} : ∀ {e : PE}, ps_isl (ps_er e) l → ps_isl e l
  | [], h => h
  | x :: e, h => by
    rcases h with h | h
    · exact Or.inl ⟨h.1, by rw [← ps_er_len (e := e)]; exact h.2⟩
    · exact Or.inr (ps_er_isl h)
theorem ps_er_pe {iw : Nat → Nat → Nat} : ∀ {e : PE}, ps_pe iw (ps_er e) = ps_pe iw e
  | [] => rfl
  | x :: e => by rw [ps_er_c, ps_pe, ps_pe, ps_er_pe]
theorem ps_key_1 (k : Int32) (v : PV) : (ps_key k v).length ≤ 1 := by
  unfold ps_key
  repeat' split
  all_goals simp
theorem am_rz_c {x : Nat × Int32 × Int32 × Int32 × Nat} {e : PE} {n : Nat} (h : x.1 ≠ 9) : ∀ {z : Option Nat}, am_rz (x :: e) n z = am_rz e n z
  | none => rfl
  | some l => by show ps_mk (x :: e) l = ps_mk e l; rw [ps_mk, if_neg (fun q => h q.1)]
section
variable {p : PG} {k k1 : List AF} {n : Nat}
theorem am_gbind {e : PE} {z : Option Nat} {g : PV → PR} (hm : ∀ l, ps_mk e l ≤ n) (H : ∀ o n', n ≤ n' → am_gen p k n' (am_rz e n' (g o).2) (g o).1 (fun F => am_G o k1 F)) : ∀ {as : List PV} {s : List AK → AC}, am_gen p k1 n (am_rz e n z) as s → am_gen p k n (am_rz e n (ps_bnd z g as).2) (ps_bnd z g as).1 s
  | [], _, h => h
  | o :: os, s, ⟨X, a, b⟩ => by
    have r := am_gbind hm H b
    have q := H o (X.length + n) (by omega)
    rw [ps_bnd, ps_sq]
    cases hz : (g o).2 with
    | none =>
      rw [hz] at q
      rw [if_pos rfl]
      exact am_gpre a (am_gsh (s := fun F => am_G o k1 F) q r)
    | some l =>
      rw [hz] at q
      rw [if_neg (by simp), hz]
      exact am_gpre a (am_gcut (s := fun F => am_G o k1 F) (hm l) q)
theorem am_geach {f : Nat} {e : PE} {v : PV} (hf : pg_k p f = 2) : ∀ {j c : Nat}, c + j = 3 → am_gen p k n n (ps_chs p v j c) (fun F => am_bk p ((f, e, k, v, c) :: F))
  | 0, c, h => am_g0 fun F hF => by
      have hc : c = 3 := by omega
      subst hc
      rw [am_bk_c, if_pos hf, am_nc, if_neg (by omega)]; exact am_rf
  | j + 1, c, h => by
      have ih := am_geach (e := e) (v := v) hf (j := j) (c := c + 1) (by omega)
      have e3 : 3 - c = j + 1 := by omega
      have e4 : 3 - (c + 1) = j := by omega
      rw [ps_chs]
      by_cases hp : pg_p p (3 * v.2 + 1 + nI c).toNatClampNeg = 0
      · rw [if_pos hp]
        refine am_gpre (fun F hF => ?_) ih
        have : am_bk p ((f, e, k, v, c) :: F) = am_bk p ((f, e, k, v, c + 1) :: F) := by
          rw [am_bk_c, am_bk_c, if_pos hf, if_pos hf, e3, e4, am_nc, if_pos hp]
        rw [this]; exact am_rf
      · rw [if_neg hp]
        refine ⟨[(f, e, k, v, c + 1)], fun F hF => ?_, am_gpre (fun F hF => am_sB am_rf) ih⟩
        dsimp only
        rw [am_bk_c, if_pos hf, e3, am_nc, if_neg hp, if_pos (by omega)]
        exact am_rf
theorem am_galt1 {f : Nat} {e : PE} {v : PV} {z : Option Nat} (hf : pg_k p f = 12) (hm : ∀ l, ps_mk e l ≤ n) : ∀ {as : List PV} {s : List AK → AC}, am_gen p ((12, f, e, v, n) :: k) (n + 1) (am_rz e (n + 1) z) as s → am_gen p k n (am_rz e n z) (ps_bnd z (ps_nz p) as).1 (fun F => s ((f, e, k, v, 1) :: F))
  | [], s, h => fun F hF => by
      have q := h ((f, e, k, v, 1) :: F) (by rw [List.length_cons, hF])
      refine am_tr q ?_
      cases z with
      | none =>
        show am_rc p (am_B (am_ct (n + 1) ((f, e, k, v, 1) :: F))) (am_B (am_ct n F))
        rw [am_ct_len (by rw [List.length_cons, hF]), am_ct_len hF]
        refine am_sB ?_
        rw [am_bk_c, if_neg (by rw [hf]; decide), if_neg (by decide)]; exact am_rf
      | some l =>
        show am_rc p (am_B (am_ct (ps_mk e l) ([(f, e, k, v, 1)] ++ F))) (am_B (am_ct (ps_mk e l) F))
        rw [am_ct_app (by rw [hF]; exact hm l)]; exact am_rf
  | o :: os, s, ⟨X, a, b⟩ => by
      have ih := am_galt1 hf hm b
      rw [ps_nz_c]
      by_cases hz : ps_num p o = 0
      · rw [if_pos hz]
        refine am_gpre (fun F hF => am_tr (a ((f, e, k, v, 1) :: F) (by rw [List.length_cons, hF])) (am_sG ?_)) ih
        rw [am_gv12, if_pos hz]; exact am_rf
      · rw [if_neg hz]
        refine ⟨X ++ [(f, e, k, v, 1)], fun F hF => am_tr (a ((f, e, k, v, 1) :: F) (by rw [List.length_cons, hF])) (am_sG ?_), ?_⟩
        · rw [am_gv12, if_neg hz]
          rw [← hF, am_sf_app, List.append_assoc]; exact am_rf
        · show am_gen p k n (am_rz e n z) (ps_bnd z (ps_nz p) os).1 (fun F => am_B (X ++ [(f, e, k, v, 1)] ++ F))
          simpa only [List.append_assoc, List.singleton_append] using ih
theorem am_galt0 {f : Nat} {e : PE} {v : PV} {z : Option Nat} {rb : PR} (hf : pg_k p f = 12) (hm : ∀ l, ps_mk e l ≤ n) (hb : am_gen p k n (am_rz e n rb.2) rb.1 (fun F => am_E (pg_2 p f) e v k F)) : ∀ {as : List PV} {s : List AK → AC}, am_gen p ((12, f, e, v, n) :: k) (n + 1) (am_rz e (n + 1) z) as s → am_gen p k n (am_rz e n (ps_alt (ps_bnd z (ps_nz p) as) rb).2) (ps_alt (ps_bnd z (ps_nz p) as) rb).1 (fun F => s ((f, e, k, v, 0) :: F))
  | [], s, h => by
      cases z with
      | none =>
        rw [ps_bnd, ps_alt, if_pos ⟨rfl, rfl⟩]
        refine am_gpre (fun F hF => ?_) hb
        have q := h ((f, e, k, v, 0) :: F) (by rw [List.length_cons, hF])
        refine am_tr q ?_
        show am_rc p (am_B (am_ct (n + 1) ((f, e, k, v, 0) :: F))) _
        rw [am_ct_len (by rw [List.length_cons, hF])]
        refine am_sB ?_
        rw [am_bk_c, if_neg (by rw [hf]; decide), if_pos rfl]; exact am_rf
      | some l =>
        rw [ps_bnd, ps_alt, if_neg (by simp)]
        intro F hF
        have q := h ((f, e, k, v, 0) :: F) (by rw [List.length_cons, hF])
        refine am_tr q ?_
        show am_rc p (am_B (am_ct (ps_mk e l) ([(f, e, k, v, 0)] ++ F))) (am_B (am_ct (ps_mk e l) F))
        rw [am_ct_app (by rw [hF]; exact hm l)]; exact am_rf
  | o :: os, s, ⟨X, a, b⟩ => by
      by_cases hz : ps_num p o = 0
      · have ih := am_galt0 hf hm hb b
        rw [ps_nz_c, if_pos hz]
        refine am_gpre (fun F hF => am_tr (a ((f, e, k, v, 0) :: F) (by rw [List.length_cons, hF])) (am_sG ?_)) ih
        rw [am_gv12, if_pos hz]; exact am_rf
      · have ih := am_galt1 hf hm b
        rw [ps_nz_c, if_neg hz, ps_alt, if_neg (by simp), ps_nz_2]
        refine ⟨X ++ [(f, e, k, v, 1)], fun F hF => am_tr (a ((f, e, k, v, 0) :: F) (by rw [List.length_cons, hF])) (am_sG ?_), ?_⟩
        · rw [am_gv12, if_neg hz]
          rw [← hF, am_sf_app, List.append_assoc]; exact am_rf
        · show am_gen p k n (am_rz e n z) (ps_bnd z (ps_nz p) os).1 (fun F => am_B (X ++ [(f, e, k, v, 1)] ++ F))
          simpa only [List.append_assoc, List.singleton_append] using ih
end
theorem ps_mk_fd : ∀ {e : PE}, (∀ x e', ps_fd 9 (-1) e = x :: e' → ps_mk e (e'.length + 1) = x.2.2.2.2)
  | [], _, _, h => by cases h
  | y :: e, x, e', h => by
    rw [ps_fd] at h
    by_cases hc : y.1 = 9 ∧ ((-1 : Int32) < 0 ∨ y.2.1 = -1)
    · rw [if_pos hc] at h; cases h
      rw [ps_mk, if_pos ⟨hc.1, rfl⟩]
    · rw [if_neg hc] at h
      have hl := ps_fd_len (k := 9) (s := -1) (e := e)
      rw [h, List.length_cons] at hl
      rw [ps_mk, if_neg (by omega)]; exact ps_mk_fd x e' h
section
variable {p : PG} {iw : Nat → Nat → Nat} {T : Nat}
theorem am_main (ok : ps_ok p iw T) : ∀ (N f : Nat) (e : PE) (v : PV) (k : List AF) (n : Nat), f < T → ps_eok T e → iw f (ps_pe iw e) ≤ N → (∀ l, ps_mk e l ≤ n) → am_gen p k n (am_rz e n (ps_ev p N f (ps_er e) v).2) (ps_ev p N f (ps_er e) v).1 (fun F => am_E f e v k F) := by
  intro N
  induction N with
  | zero => intro f e v k n hf _ hw _; have := ps_iw_pos (q := ps_pe iw e) ok hf; omega
  | succ N ih =>
    intro f e v k n hf he hw hm
    rcases ps_kinds (ok.2 f hf).1 with c | c | c | c | c | c | c | c | c | c | c | c | c | c | c | c | c
    · rw [ps_ev0 c]
      refine am_g1 fun F hF => am_sE ?_
      rw [am_ev, if_pos c]; exact am_rf
    · rw [ps_ev1 c]
      refine am_gone (ps_key_1 _ _) fun F hF => am_sE ?_
      rw [am_ev]; simp only [c]; exact am_rf
    · rw [ps_ev2 c, ps_each]
      by_cases h1 : v.1 = 0
      · rw [if_pos h1]
        refine am_g0 fun F hF => am_sE ?_
        rw [am_ev]; simp only [c, h1]; exact am_rf
      · rw [if_neg h1]
        by_cases h2 : 12 < v.2
        · rw [if_pos h2]
          refine am_g0 fun F hF => am_sE ?_
          rw [am_ev]; simp only [c, h1, h2]; exact am_rf
        · rw [if_neg h2]
          refine am_gpre (s' := fun F => am_bk p ((f, e, k, v, 0) :: F)) (fun F hF => am_sE ?_) (am_geach c rfl)
          rw [am_ev]; simp only [c, h1, h2]; exact am_sB am_rf
    · rw [ps_ev3 c]
      refine am_g1 fun F hF => am_sE ?_
      rw [am_ev]; simp only [c]; exact am_rf
    · rw [ps_ev4 c, show ps_var (ps_er e) (pg_a p f) = ps_var e (pg_a p f) by rw [ps_var, ps_er_fd, ps_er_hd]; rfl]
      refine am_g1 fun F hF => am_sE ?_
      rw [am_ev]; simp only [c]; exact am_rf
    · rw [ps_ev5 c]
      refine am_g0 fun F hF => am_sE ?_
      rw [am_ev]; simp only [c]; exact am_rf
    · rw [ps_ev6 c, ps_er_fd]
      cases hx : ps_fd 14 (-1) e with
      | nil =>
        refine am_g0 fun F hF => am_sE ?_
        rw [am_ev]; simp only [c, hx]; exact am_rf
      | cons x e' =>
        have h1 := ps_fd_cons (iw := iw) hx he
        have h2 := ps_fd_sub hx
        rw [ps_iw6 ok hf c, h1.1] at hw
        have q := ih x.2.1.toNatClampNeg e' v k n h1.2.2 h1.2.1 (by omega) (fun l => by
          rcases h2.1 l with z | ⟨z, _⟩
          · rw [z]; omega
          · rw [z]; exact hm l)
        rw [ps_er_c, ps_par]
        refine am_gpre (s' := fun F => am_E x.2.1.toNatClampNeg e' v k F) (fun F hF => am_sE ?_) ?_
        · rw [am_ev]; simp only [c, hx]; exact am_rf
        · dsimp only
          have : am_rz e n (ps_ev p N x.2.1.toNatClampNeg (ps_er e') v).2 = am_rz e' n (ps_ev p N x.2.1.toNatClampNeg (ps_er e') v).2 := by
            cases hz : (ps_ev p N x.2.1.toNatClampNeg (ps_er e') v).2 with
            | none => rfl
            | some l =>
              have hi := ps_isl_le (ps_er_isl (ps_ev_isl _ _ _ _ _ hz))
              show ps_mk e l = ps_mk e' l
              rw [← ps_fd_mk (k := 14) (s := -1) (e := e) (by rw [hx, List.length_cons]; omega), hx, ps_mk, if_neg (by omega)]
          rw [this]; exact q
    · rw [ps_ev7 c, ps_er_fd, ps_er_len]
      intro F hF
      refine am_sE ?_
      rw [am_ev]; simp only [c]
      cases hx : ps_fd 9 (-1) e with
      | nil =>
        show am_rc p (am_B []) (am_B (am_ct (ps_mk e 0) F))
        rw [ps_mk_0, am_ct_0]; exact am_rf
      | cons x e' =>
        show am_rc p (am_B (am_ct x.2.2.2.2 F)) (am_B (am_ct (ps_mk e (e'.length + 1)) F))
        rw [ps_mk_fd x e' hx]; exact am_rf
    · rw [ps_ev8 c]
      rw [ps_iw8 ok hf (Or.inl c)] at hw
      have q := ih (pg_1 p f) e v ((8, f, e, v, 0) :: k) n (ps_c1 ok hf (by omega)) he (by omega) hm
      refine am_gbind hm (fun o n' hn => ?_) (am_gpre (fun F hF => am_sE ?_) q)
      · refine am_gone (ps_key_1 _ _) fun F hF => am_sG ?_
        rw [am_gv8]; exact am_rf
      · rw [am_ev]; simp only [c]; exact am_rf
    · rw [ps_ev9 c, ps_catch, ps_er_len]
      rw [ps_iw8 ok hf (Or.inr c)] at hw
      have q := ih (pg_1 p f) ((9, nI f, 0, 0, n) :: e) v k n (ps_c1 ok hf (by omega)) (by
        intro x hx h14
        rcases List.mem_cons.mp hx with rfl | hx
        · cases h14
        · exact he x hx h14) (by rw [ps_pe, if_neg (by intro z; cases z)]; omega) (fun l => by
        rw [ps_mk]; split
        · exact Nat.le_refl _
        · exact hm l)
      rw [ps_er_c] at q
      dsimp only at q ⊢
      refine am_gpre (s' := fun F => am_E (pg_1 p f) ((9, nI f, 0, 0, n) :: e) v k F) (fun F hF => am_sE ?_) ?_
      · rw [am_ev]; simp only [c, hF]; exact am_rf
      · have : am_rz e n (if (ps_ev p N (pg_1 p f) ((9, nI f, 0, 0, 0) :: ps_er e) v).2 = some (e.length + 1) then none else (ps_ev p N (pg_1 p f) ((9, nI f, 0, 0, 0) :: ps_er e) v).2) = am_rz ((9, nI f, 0, 0, n) :: e) n (ps_ev p N (pg_1 p f) ((9, nI f, 0, 0, 0) :: ps_er e) v).2 := by
          cases hz : (ps_ev p N (pg_1 p f) ((9, nI f, 0, 0, 0) :: ps_er e) v).2 with
          | none => rfl
          | some l =>
            by_cases hl : l = e.length + 1
            · rw [if_pos (by rw [hl])]
              show n = ps_mk _ l
              rw [ps_mk, if_pos ⟨rfl, hl⟩]
            · rw [if_neg (by simpa using hl)]
              show ps_mk e l = ps_mk _ l
              rw [ps_mk, if_neg (fun z => hl z.2)]
        rw [this]; exact q
    · rw [ps_ev10 c]
      rw [ps_iw10 ok hf (by omega) (by omega) (by omega)] at hw
      have q := ih (pg_1 p f) e v ((10, f, e, v, 0) :: k) n (ps_c1 ok hf (by omega)) he (by omega) hm
      refine am_gbind hm (fun o n' hn => ?_) (am_gpre (fun F hF => am_sE ?_) q)
      · refine am_gpre (fun F hF => am_sG ?_) (ih (pg_2 p f) e o k n' (ps_c2 ok hf (by omega)) he (by omega) (fun l => Nat.le_trans (hm l) hn))
        rw [am_gv10]; exact am_rf
      · rw [am_ev]; simp only [c]; exact am_rf
    · rw [ps_ev11 c]
      rw [ps_iw10 ok hf (by omega) (by omega) (by omega)] at hw
      have qa := ih (pg_1 p f) e v k (n + 1) (ps_c1 ok hf (by omega)) he (by omega) (fun l => Nat.le_succ_of_le (hm l))
      have qb := ih (pg_2 p f) e v k n (ps_c2 ok hf (by omega)) he (by omega) hm
      refine am_gpre (s' := fun F => am_E (pg_1 p f) e v k ([(f, e, k, v, 0)] ++ F)) (fun F hF => am_sE ?_) ?_
      · rw [am_ev]; simp only [c]; exact am_rf
      · rw [ps_sq]
        rw [show n + 1 = [(f, e, k, v, 0)].length + n by simp [Nat.add_comm]] at qa
        cases hz : (ps_ev p N (pg_1 p f) (ps_er e) v).2 with
        | none =>
          rw [hz] at qa
          rw [if_pos rfl]
          refine am_gsh (s := fun F => am_E (pg_1 p f) e v k F) qa (am_gpre (fun F hF => am_sB ?_) qb)
          show am_rc p (am_bk p ((f, e, k, v, 0) :: F)) _
          rw [am_bk_c, if_neg (by rw [c]; decide), if_pos rfl]; exact am_rf
        | some l =>
          rw [hz] at qa
          rw [if_neg (by simp), hz]
          exact am_gcut (s := fun F => am_E (pg_1 p f) e v k F) (hm l) qa
    · rw [ps_ev12 c]
      rw [ps_iw10 ok hf (by omega) (by omega) (by omega)] at hw
      have qa := ih (pg_1 p f) e v ((12, f, e, v, n) :: k) (n + 1) (ps_c1 ok hf (by omega)) he (by omega) (fun l => Nat.le_succ_of_le (hm l))
      have qb := ih (pg_2 p f) e v k n (ps_c2 ok hf (by omega)) he (by omega) hm
      have q := am_galt0 c hm qb qa
      refine am_gpre (fun F hF => am_sE ?_) q
      rw [am_ev]; simp only [c, hF]; exact am_rf
    · rw [ps_ev13 c]
      rw [ps_iw10 ok hf (by omega) (by omega) (by omega)] at hw
      have q := ih (pg_1 p f) e v ((13, f, e, v, 0) :: k) n (ps_c1 ok hf (by omega)) he (by omega) hm
      refine am_gbind hm (fun o n' hn => ?_) (am_gpre (fun F hF => am_sE ?_) q)
      · have qb := ih (pg_2 p f) ((13, pg_a p f, (ps_bv o).1, (ps_bv o).2, 0) :: e) v k n' (ps_c2 ok hf (by omega)) (by
          intro x hx h14
          rcases List.mem_cons.mp hx with rfl | hx
          · cases h14
          · exact he x hx h14) (by rw [ps_pe, if_neg (by intro z; cases z)]; omega) (fun l => by
          rw [ps_mk, if_neg (fun z => by cases z.1)]; exact Nat.le_trans (hm l) hn)
        rw [am_rz_c (by intro z; cases z), ps_er_c] at qb
        refine am_gpre (fun F hF => am_sG ?_) qb
        rw [am_gv13]; exact am_rf
      · rw [am_ev]; simp only [c]; exact am_rf
    · rw [ps_ev14 c]
      rw [ps_iw14 ok hf c] at hw
      have h2 := ps_c2 ok hf (by omega : 10 ≤ pg_k p f)
      have h32 := ok.1
      have hcl : (nI (pg_2 p f)).toNatClampNeg = pg_2 p f := nI_clamp (by omega)
      have q := ih (pg_1 p f) ((14, nI (pg_2 p f), 0, 0, 0) :: e) v k n (ps_c1 ok hf (by omega)) (by
        intro x hx h14
        rcases List.mem_cons.mp hx with rfl | hx
        · show (nI (pg_2 p f)).toNatClampNeg < T
          rw [hcl]; exact h2
        · exact he x hx h14) (by rw [ps_pe, if_pos rfl, hcl]; omega) (fun l => by
        rw [ps_mk, if_neg (fun z => by cases z.1)]; exact hm l)
      rw [am_rz_c (by intro z; cases z), ps_er_c] at q
      refine am_gpre (fun F hF => am_sE ?_) q
      rw [am_ev]; simp only [c]; exact am_rf
    · rw [ps_ev15 c]
      rw [ps_iw10 ok hf (by omega) (by omega) (by omega)] at hw
      have q := ih (pg_1 p f) e v ((pg_k p f, f, e, v, 0) :: k) n (ps_c1 ok hf (by omega)) he (by omega) hm
      refine am_gbind hm (fun o n' hn => ?_) (am_gpre (fun F hF => am_sE ?_) q)
      · rcases c with c | c
        · have qb := ih (pg_2 p f) e v ((18, 0, [], (0, ps_num p o), 0) :: k) n' (ps_c2 ok hf (by omega)) he (by omega) (fun l => Nat.le_trans (hm l) hn)
          refine am_gpre (fun F hF => am_sG ?_) (am_gmap (k := k) (g := fun q => ps_cmb (pg_k p f) (ps_num p o) (ps_num p q)) (fun o' F => am_sG ?_) qb)
          · rw [am_gv]; simp only [c]; exact am_rf
          · rw [am_gv]; simp only [c]; exact am_rf
        · have qb := ih (pg_2 p f) e v ((19, 0, [], (0, ps_num p o), 0) :: k) n' (ps_c2 ok hf (by omega)) he (by omega) (fun l => Nat.le_trans (hm l) hn)
          refine am_gpre (fun F hF => am_sG ?_) (am_gmap (k := k) (g := fun q => ps_cmb (pg_k p f) (ps_num p o) (ps_num p q)) (fun o' F => am_sG ?_) qb)
          · rw [am_gv]; simp only [c]; exact am_rf
          · rw [am_gv]; simp only [c]; exact am_rf
      · rw [am_ev]; rcases c with c | c <;> simp only [c] <;> exact am_rf
    · rw [ps_ev17 c]
      rw [ps_iw17 ok hf c] at hw
      have q := ih (pg_1 p f) e v ((17, f, e, v, 0) :: k) n (ps_c1 ok hf (by omega)) he (by omega) hm
      refine am_gbind hm (fun o n' hn => ?_) (am_gpre (fun F hF => am_sE ?_) q)
      · refine am_gpre (fun F hF => am_sG ?_) (ih (if ps_num p o = 0 then pg_3 p f else pg_2 p f) e v k n' (by split; exact ps_c3 ok hf c; exact ps_c2 ok hf (by omega)) he (by split <;> omega) (fun l => Nat.le_trans (hm l) hn))
        rw [am_gv]; simp only [c]; exact am_rf
      · rw [am_ev]; simp only [c]; exact am_rf
end
end
section
/-! ===== what a configuration still yields; well-formedness; the potential ===== -/
def am_yld (p : PG) : List PV → AC → Prop
  | [], c => am_rc p c am_N
  | o :: os, c => ∃ F : List AK, am_rc p c (am_D o F) ∧ am_yld p os (am_B F)
theorem am_top {p : PG} {m : Nat} : ∀ {l : List PV} {s : List AK → AC}, am_gen p [] 0 m l s → am_yld p l (s [])
  | [], s, h => am_tr (h [] rfl) (by
      have : am_ct m ([] : List AK) = [] := by rw [am_ct]; simp
      rw [this]; exact am_sB am_rf)
  | o :: os, s, ⟨X, a, b⟩ => ⟨X, am_tr (a [] rfl) (by
      rw [List.append_nil]; exact am_sG am_rf), by
      have := am_top b
      rwa [List.append_nil] at this⟩
def aw_G : Nat → Nat
  | 0 => 10
  | 1 => 13
  | 2 => 17
  | n + 3 => 2 * aw_G n + 2
theorem aw_G1 : ∀ n, aw_G n < aw_G (n + 1)
  | 0 => by decide
  | 1 => by decide
  | 2 => by decide
  | n + 3 => by have := aw_G1 n; show 2 * aw_G n + 2 < 2 * aw_G (n + 1) + 2; omega
theorem aw_G5 : ∀ n, 3 * aw_G n + 6 ≤ aw_G (n + 5)
  | 0 => by decide
  | 1 => by decide
  | 2 => by decide
  | n + 3 => by have := aw_G5 n; show 3 * (2 * aw_G n + 2) + 6 ≤ 2 * aw_G (n + 5) + 2; omega
theorem aw_Gm {a b : Nat} (h : a ≤ b) : aw_G a ≤ aw_G b := by
  induction h with
  | refl => exact Nat.le_refl _
  | step _ ih => exact Nat.le_of_lt (Nat.lt_of_le_of_lt ih (aw_G1 _))
theorem aw_Gl {a b : Nat} (h : a < b) : aw_G a < aw_G b := Nat.lt_of_lt_of_le (aw_G1 a) (aw_Gm h)
theorem aw_G10 (n : Nat) : 10 ≤ aw_G n := aw_Gm (a := 0) (Nat.zero_le n)
theorem aw_Gf {a b c : Nat} (ha : a + 3 ≤ c) (hb : b + 3 ≤ c) : aw_G a + aw_G b + 2 ≤ aw_G c := by
  have h1 := aw_Gm ha
  have h2 := aw_Gm hb
  have e1 : aw_G (a + 3) = 2 * aw_G a + 2 := rfl
  have e2 : aw_G (b + 3) = 2 * aw_G b + 2 := rfl
  omega
theorem aw_G47 : aw_G 47 ≤ 700000 := by decide +kernel
section
variable (p : PG) (iw : Nat → Nat → Nat) (T : Nat)
def aw_me (f : Nat) (e : PE) : Nat := 2 * iw f (ps_pe iw e) - 1
def aw_mf (q : AF) : Nat :=
  if q.1 = 10 ∨ q.1 = 13 ∨ q.1 = 15 ∨ q.1 = 16 then aw_me iw (pg_2 p q.2.1) q.2.2.1 + 2
  else if q.1 = 17 then aw_me iw (pg_2 p q.2.1) q.2.2.1 + aw_me iw (pg_3 p q.2.1) q.2.2.1 + 2 else 1
def aw_mk : List AF → Nat
  | [] => 0
  | q :: k => aw_mf p iw q + aw_mk k
def aw_pf (x : AK) : Nat :=
  if pg_k p x.1 = 2 then (3 - x.2.2.2.2) * (aw_G (aw_mk p iw x.2.2.1) + 1) + 1
  else if x.2.2.2.2 = 0 then aw_G (aw_me iw (pg_2 p x.1) x.2.1 + aw_mk p iw x.2.2.1) + 1 else 1
def aw_ps : List AK → Nat
  | [] => 0
  | x :: F => aw_pf p iw x + aw_ps F
def aw_pot (c : AC) : Nat :=
  if c.1 = 0 then aw_G (aw_me iw c.2.1 c.2.2.1 + aw_mk p iw c.2.2.2.1) + aw_ps p iw c.2.2.2.2.2
  else if c.1 = 1 then aw_G (aw_mk p iw c.2.2.2.1) + aw_ps p iw c.2.2.2.2.2
  else if c.1 = 4 then 0 else aw_ps p iw c.2.2.2.2.2 + 1
def aw_v (v : PV) : Prop := (v.1 = 0 ∨ v.1 = 1 ∨ v.1 = 2) ∧ (v.1 ≠ 0 → ∃ j, j < 40 ∧ v.2 = nI j)
def aw_e (n : Nat) (e : PE) : Prop := ∀ x, x ∈ e → x.1 ≤ 17 ∧ (x.1 = 14 → ∃ b, b < T ∧ x.2.1 = nI b) ∧ (x.1 = 13 → aw_v (x.2.2.1, x.2.2.2.1)) ∧ (x.1 = 9 → x.2.2.2.2 ≤ n)
def am_nd : List AK → Nat → Nat
  | [], _ => 0
  | x :: F, i => if i = F.length then x.1 else am_nd F i
def aw_f (F : List AK) (q : AF) : Prop :=
  (q.1 = 8 ∨ q.1 = 10 ∨ q.1 = 12 ∨ q.1 = 13 ∨ q.1 = 15 ∨ q.1 = 16 ∨ q.1 = 17 ∨ q.1 = 18 ∨ q.1 = 19)
  ∧ (q.1 < 18 → q.2.1 < T ∧ pg_k p q.2.1 = q.1 ∧ aw_e T F.length q.2.2.1 ∧ aw_v q.2.2.2.1)
  ∧ (q.1 = 12 → q.2.2.2.2 < F.length ∧ pg_k p (am_nd F q.2.2.2.2) = 12)
def aw_k (F : List AK) (k : List AF) : Prop := ∀ q, q ∈ k → aw_f p T F q
def aw_mfk (x : AK) : Nat := if pg_k p x.1 = 2 then aw_mk p iw x.2.2.1 + 1 else aw_me iw (pg_2 p x.1) x.2.1 + aw_mk p iw x.2.2.1
def aw_fk : List AK → Prop
  | [] => True
  | x :: F => aw_fk F ∧ x.1 < T ∧ aw_e T F.length x.2.1 ∧ aw_k p T F x.2.2.1 ∧ aw_v x.2.2.2.1
      ∧ (pg_k p x.1 = 2 ∨ pg_k p x.1 = 11 ∨ pg_k p x.1 = 12) ∧ (pg_k p x.1 = 2 → x.2.2.2.1.1 ≠ 0 ∧ ¬ 12 < x.2.2.2.1.2 ∧ x.2.2.2.2 ≤ 3)
      ∧ x.2.2.2.2 ≤ 3 ∧ F.length + aw_mfk p iw x ≤ 64
def aw_wE (f : Nat) (e : PE) (v : PV) (k : List AF) (F : List AK) : Prop := aw_fk p iw T F ∧ aw_k p T F k ∧ aw_v v ∧ F.length + (aw_me iw f e + aw_mk p iw k) ≤ 64 ∧ f < T ∧ aw_e T F.length e
def aw_wG (v : PV) (k : List AF) (F : List AK) : Prop := aw_fk p iw T F ∧ aw_k p T F k ∧ aw_v v ∧ F.length + aw_mk p iw k ≤ 64
def aw_wf (c : AC) : Prop :=
  if c.1 = 0 then aw_wE p iw T c.2.1 c.2.2.1 c.2.2.2.2.1 c.2.2.2.1 c.2.2.2.2.2
  else if c.1 = 1 then aw_wG p iw T c.2.2.2.2.1 c.2.2.2.1 c.2.2.2.2.2
  else aw_fk p iw T c.2.2.2.2.2 ∧ (c.1 = 3 → aw_v c.2.2.2.2.1)
end
section
variable {p : PG} {iw : Nat → Nat → Nat} {T : Nat}
theorem aw_wE_i {f : Nat} {e : PE} {v : PV} {k : List AF} {F : List AK} : aw_wf p iw T (am_E f e v k F) = aw_wE p iw T f e v k F := rfl
theorem aw_wG_i {v : PV} {k : List AF} {F : List AK} : aw_wf p iw T (am_G v k F) = aw_wG p iw T v k F := rfl
theorem aw_wB_i {F : List AK} (h : aw_fk p iw T F) : aw_wf p iw T (am_B F) := ⟨h, fun z => by cases z⟩
theorem aw_wB_e {F : List AK} (h : aw_wf p iw T (am_B F)) : aw_fk p iw T F := h.1
theorem aw_pE {f : Nat} {e : PE} {v : PV} {k : List AF} {F : List AK} : aw_pot p iw (am_E f e v k F) = aw_G (aw_me iw f e + aw_mk p iw k) + aw_ps p iw F := rfl
theorem aw_pG {v : PV} {k : List AF} {F : List AK} : aw_pot p iw (am_G v k F) = aw_G (aw_mk p iw k) + aw_ps p iw F := rfl
theorem aw_pB {F : List AK} : aw_pot p iw (am_B F) = aw_ps p iw F + 1 := rfl
theorem aw_e_mono {n m : Nat} {e : PE} (h : aw_e T n e) (hn : n ≤ m) : aw_e T m e := fun x hx => ⟨(h x hx).1, (h x hx).2.1, (h x hx).2.2.1, fun z => Nat.le_trans ((h x hx).2.2.2 z) hn⟩
theorem aw_e_tl {n : Nat} {k : Nat} {s : Int32} {x : Nat × Int32 × Int32 × Int32 × Nat} {e' : PE} : ∀ {e : PE}, aw_e T n e → ps_fd k s e = x :: e' → aw_e T n e'
  | [], _, h => by cases h
  | y :: e, he, h => by
    rw [ps_fd] at h
    split at h
    · cases h; exact fun z hz => he z (List.mem_cons_of_mem _ hz)
    · exact aw_e_tl (fun z hz => he z (List.mem_cons_of_mem _ hz)) h
theorem aw_e_c {n : Nat} {x : Nat × Int32 × Int32 × Int32 × Nat} {e : PE} (he : aw_e T n e) (hx : x.1 ≤ 17 ∧ (x.1 = 14 → ∃ b, b < T ∧ x.2.1 = nI b) ∧ (x.1 = 13 → aw_v (x.2.2.1, x.2.2.2.1)) ∧ (x.1 = 9 → x.2.2.2.2 ≤ n)) : aw_e T n (x :: e) := by
  intro z hz
  rcases List.mem_cons.mp hz with rfl | hz
  · exact hx
  · exact he z hz
theorem aw_e_ok {n : Nat} {e : PE} (hT : T ≤ 32) (he : aw_e T n e) : ps_eok T e := fun x hx h14 => by
  obtain ⟨b, hb, hx⟩ := (he x hx).2.1 h14
  rw [hx, nI_clamp (by omega)]; exact hb
theorem am_nd_c {F : List AK} {x : AK} {i : Nat} (h : i < F.length) : am_nd (x :: F) i = am_nd F i := by rw [am_nd, if_neg (by omega)]
theorem am_sf_len {m : Nat} : ∀ {F : List AK}, (am_sf m F).length = F.length
  | [] => rfl
  | x :: F => by
    rw [am_sf]; split
    · rfl
    · rw [List.length_cons, List.length_cons, am_sf_len]
theorem am_sf_nd {m i : Nat} : ∀ {F : List AK}, am_nd (am_sf m F) i = am_nd F i
  | [] => rfl
  | x :: F => by
    rw [am_sf]; split
    · rw [am_nd, am_nd]
    · rw [am_nd, am_nd, am_sf_len, am_sf_nd]
theorem aw_f_c {F : List AK} {x : AK} {q : AF} (h : aw_f p T F q) : aw_f p T (x :: F) q := by
  refine ⟨h.1, fun z => ?_, fun z => ?_⟩
  · have := h.2.1 z
    exact ⟨this.1, this.2.1, aw_e_mono this.2.2.1 (by rw [List.length_cons]; omega), this.2.2.2⟩
  · have := h.2.2 z
    rw [am_nd_c this.1, List.length_cons]
    exact ⟨by omega, this.2⟩
theorem aw_k_c {F : List AK} {x : AK} {k : List AF} (h : aw_k p T F k) : aw_k p T (x :: F) k := fun q hq => aw_f_c (h q hq)
theorem aw_k_i {F : List AK} {q : AF} {k : List AF} (h : aw_k p T F k) (hq : aw_f p T F q) : aw_k p T F (q :: k) := by
  intro z hz
  rcases List.mem_cons.mp hz with rfl | hz
  · exact hq
  · exact h z hz
theorem aw_k_e {F : List AK} {q : AF} {k : List AF} (h : aw_k p T F (q :: k)) : aw_f p T F q ∧ aw_k p T F k := ⟨h q List.mem_cons_self, fun z hz => h z (List.mem_cons_of_mem _ hz)⟩
theorem aw_f_sf {F : List AK} {m : Nat} {q : AF} (h : aw_f p T F q) : aw_f p T (am_sf m F) q := by
  rw [aw_f, am_sf_len, am_sf_nd]; exact h
theorem aw_k_sf {F : List AK} {m : Nat} {k : List AF} (h : aw_k p T F k) : aw_k p T (am_sf m F) k := fun q hq => aw_f_sf (h q hq)
theorem aw_fk_sf {m : Nat} : ∀ {F : List AK}, aw_fk p iw T F → m < F.length → pg_k p (am_nd F m) = 12 → aw_fk p iw T (am_sf m F) ∧ aw_ps p iw (am_sf m F) ≤ aw_ps p iw F
  | [], h, _, _ => ⟨h, Nat.le_refl _⟩
  | x :: F, h, hm, hk => by
    rw [am_sf]
    rw [am_nd] at hk
    by_cases hc : F.length = m
    · rw [if_pos hc.symm] at hk
      rw [if_pos hc]
      refine ⟨⟨h.1, h.2.1, h.2.2.1, h.2.2.2.1, h.2.2.2.2.1, h.2.2.2.2.2.1, fun z => ?_, (show (1 : Nat) ≤ 3 by decide), h.2.2.2.2.2.2.2.2⟩, ?_⟩
      · dsimp only at z; rw [hk] at z; cases z
      · rw [aw_ps, aw_ps]
        have : aw_pf p iw (x.1, x.2.1, x.2.2.1, x.2.2.2.1, 1) ≤ aw_pf p iw x := by
          rw [aw_pf, aw_pf]
          dsimp only
          have hk2 : ¬ pg_k p x.1 = 2 := by rw [hk]; decide
          rw [if_neg hk2, if_neg hk2, if_neg (show ¬ (1 : Nat) = 0 by decide)]
          split <;> omega
        omega
    · rw [if_neg (fun z => hc z.symm)] at hk
      rw [if_neg hc]
      rw [List.length_cons] at hm
      have ih := aw_fk_sf h.1 (by omega) hk
      refine ⟨⟨ih.1, h.2.1, ?_, aw_k_sf h.2.2.2.1, h.2.2.2.2.1, h.2.2.2.2.2.1, h.2.2.2.2.2.2.1, h.2.2.2.2.2.2.2.1, ?_⟩, ?_⟩
      · rw [am_sf_len]; exact h.2.2.1
      · rw [am_sf_len]; exact h.2.2.2.2.2.2.2.2
      · rw [aw_ps, aw_ps]; have := ih.2; omega
theorem aw_fk_drop {j : Nat} : ∀ {F : List AK}, aw_fk p iw T F → aw_fk p iw T (F.drop j) ∧ aw_ps p iw (F.drop j) ≤ aw_ps p iw F := by
  induction j with
  | zero => intro F h; exact ⟨h, Nat.le_refl _⟩
  | succ j ih =>
    intro F h
    cases F with
    | nil => exact ⟨h, Nat.le_refl _⟩
    | cons x F =>
      have := ih h.1
      refine ⟨this.1, ?_⟩
      show aw_ps p iw (F.drop j) ≤ aw_pf p iw x + aw_ps p iw F
      have := this.2
      omega
end
end
section
/-! ===== each step of the machine keeps well-formedness and lowers the potential ===== -/
theorem aw_v3 {v : PV} {c : Nat} (h : aw_v v) (h0 : v.1 ≠ 0) (h12 : v.2 ≤ 12) : ∃ j, j < 13 ∧ v.2 = nI j ∧ 3 * v.2 + 1 + nI c = nI (3 * j + 1 + c) := by
  obtain ⟨j, hj, e⟩ := h.2 h0
  rw [e] at h12 ⊢
  have h13 : nI j ≤ nI 12 := h12
  rw [nI_leI (by omega) (by omega)] at h13
  refine ⟨j, by omega, rfl, ?_⟩
  show nI 3 * nI j + nI 1 + nI c = _
  rw [pk_mul, nI_add, nI_add]
theorem aw_v_i {t : Int32} {j : Nat} (h : t = 0 ∨ t = 1 ∨ t = 2) (hj : j < 40) : aw_v (t, nI j) := ⟨h, fun _ => ⟨j, hj, rfl⟩⟩
theorem aw_v_0 {w : Int32} : aw_v (0, w) := ⟨Or.inl rfl, fun z => absurd rfl z⟩
theorem aw_v_ch {v : PV} {c : Nat} (h : aw_v v) (h0 : v.1 ≠ 0) (h12 : v.2 ≤ 12) (hc : c < 3) : aw_v (v.1, 3 * v.2 + 1 + nI c) := by
  obtain ⟨j, hj, _, e⟩ := aw_v3 (c := c) h h0 h12
  rw [e]; exact aw_v_i h.1 (by omega)
theorem aw_v_key {v : PV} {k : Int32} (h : aw_v v) : ∀ o, o ∈ ps_key k v → aw_v o := by
  intro o ho
  unfold ps_key at ho
  split at ho
  · cases ho
  · rename_i h1
    split at ho
    · cases ho
    · rename_i h2
      split at ho
      · cases ho
      · rename_i h3
        split at ho
        · rename_i h4
          obtain ⟨c, hc, rfl⟩ := nI_of2 (M := 2) (n := 2) (by decide) h1 (Int32.not_lt.mp h2)
          rw [List.mem_singleton] at ho
          rw [ho]; exact aw_v_ch h h3 h4 (by omega)
        · cases ho
theorem aw_v_bv {v : PV} (h : aw_v v) : aw_v (ps_bv v) := by
  unfold ps_bv
  split
  · rename_i h2
    refine ⟨Or.inr (Or.inl rfl), fun _ => h.2 (by rw [h2]; decide)⟩
  · exact h
theorem aw_v_var {T n : Nat} {e : PE} {s : Int32} (h : aw_e T n e) : aw_v (ps_var e s) := by
  unfold ps_var
  cases hx : ps_fd 13 s e with
  | nil => exact aw_v_0
  | cons x e' => exact (h x (ps_fd_hd hx).2).2.2.1 (ps_fd_hd hx).1
section
variable {p : PG} {iw : Nat → Nat → Nat} {T : Nat}
theorem aw_me1 {f : Nat} {e : PE} (ok : ps_ok p iw T) (hf : f < T) : 1 ≤ aw_me iw f e := by
  have := ps_iw_pos (q := ps_pe iw e) ok hf; unfold aw_me; omega
theorem aw_mf1 (q : AF) : 1 ≤ aw_mf p iw q := by
  unfold aw_mf; repeat' split
  all_goals omega
/-- the weights of what a node goes on with -/
theorem aw_m1 {f : Nat} {e : PE} (ok : ps_ok p iw T) (hf : f < T) (h : pg_k p f = 8 ∨ pg_k p f = 9) : aw_me iw f e = aw_me iw (pg_1 p f) e + 2 := by
  have h1 := ps_iw8 (q := ps_pe iw e) ok hf h
  have h2 := ps_iw_pos (q := ps_pe iw e) ok (ps_c1 ok hf (by omega))
  unfold aw_me; omega
theorem aw_m2 {f : Nat} {e : PE} (ok : ps_ok p iw T) (hf : f < T) (h : 10 ≤ pg_k p f) (h1 : pg_k p f < 17) (h2 : pg_k p f ≠ 14) : aw_me iw f e = aw_me iw (pg_1 p f) e + aw_me iw (pg_2 p f) e + 3 := by
  have h3 := ps_iw10 (q := ps_pe iw e) ok hf h h1 h2
  have h4 := ps_iw_pos (q := ps_pe iw e) ok (ps_c1 ok hf (by omega))
  have h5 := ps_iw_pos (q := ps_pe iw e) ok (ps_c2 ok hf (by omega))
  unfold aw_me; omega
theorem aw_m3 {f : Nat} {e : PE} (ok : ps_ok p iw T) (hf : f < T) (h : pg_k p f = 17) : aw_me iw f e = aw_me iw (pg_1 p f) e + aw_me iw (pg_2 p f) e + aw_me iw (pg_3 p f) e + 4 := by
  have h3 := ps_iw17 (q := ps_pe iw e) ok hf h
  have h4 := ps_iw_pos (q := ps_pe iw e) ok (ps_c1 ok hf (by omega))
  have h5 := ps_iw_pos (q := ps_pe iw e) ok (ps_c2 ok hf (by omega))
  have h6 := ps_iw_pos (q := ps_pe iw e) ok (ps_c3 ok hf h)
  unfold aw_me; omega
theorem aw_m14 {f : Nat} {e : PE} (ok : ps_ok p iw T) (hf : f < T) (h : pg_k p f = 14) : aw_me iw f e = aw_me iw (pg_1 p f) ((14, nI (pg_2 p f), 0, 0, 0) :: e) + 2 := by
  have hc := ps_c2 ok hf (by omega)
  have h32 := ok.1
  have hcl : (nI (pg_2 p f)).toNatClampNeg = pg_2 p f := nI_clamp (by omega)
  have h3 := ps_iw14 (q := ps_pe iw e) ok hf h
  have h4 := ps_iw_pos (q := iw (pg_2 p f) (ps_pe iw e)) ok (ps_c1 ok hf (by omega))
  unfold aw_me; rw [ps_pe, if_pos rfl]; dsimp only; rw [hcl]; omega
theorem aw_m6 {f : Nat} {e e' : PE} {x : Nat × Int32 × Int32 × Int32 × Nat} (ok : ps_ok p iw T) (hf : f < T) (h : pg_k p f = 6) (he : ps_eok T e) (hx : ps_fd 14 (-1) e = x :: e') : aw_me iw f e = aw_me iw x.2.1.toNatClampNeg e' + 2 := by
  have h1 := ps_fd_cons (iw := iw) hx he
  have h3 := ps_iw6 (q := ps_pe iw e) ok hf h
  have h4 := ps_iw_pos (q := ps_pe iw e') ok h1.2.2
  unfold aw_me; rw [h3, h1.1]; omega
theorem aw_mc {f : Nat} {x : Nat × Int32 × Int32 × Int32 × Nat} {e : PE} (h : x.1 ≠ 14) : aw_me iw f (x :: e) = aw_me iw f e := by
  unfold aw_me; rw [ps_pe, if_neg h]
section
variable {f : Nat} {e : PE} {v : PV} {k : List AF} {F : List AK}
theorem aw_EE {f' : Nat} {e' : PE} {v' : PV} {k' : List AF} (w : aw_wE p iw T f' e' v' k' F) (h : aw_me iw f' e' + aw_mk p iw k' < aw_me iw f e + aw_mk p iw k) : aw_wf p iw T (am_E f' e' v' k' F) ∧ aw_pot p iw (am_E f' e' v' k' F) < aw_pot p iw (am_E f e v k F) := by
  refine ⟨w, ?_⟩
  rw [aw_pE, aw_pE]
  have := aw_Gl h
  omega
theorem aw_toG (ok : ps_ok p iw T) (w : aw_wE p iw T f e v k F) {o : PV} (ho : aw_v o) : aw_wf p iw T (am_G o k F) ∧ aw_pot p iw (am_G o k F) < aw_pot p iw (am_E f e v k F) := by
  have h1 := aw_me1 (e := e) ok w.2.2.2.2.1
  have h2 := w.2.2.2.1
  have h3 : F.length + aw_mk p iw k ≤ 64 := by omega
  refine ⟨⟨w.1, w.2.1, ho, h3⟩, ?_⟩
  rw [aw_pG, aw_pE]
  have := aw_Gl (a := aw_mk p iw k) (b := aw_me iw f e + aw_mk p iw k) (by omega)
  omega
theorem aw_toB {F' : List AK} (w : aw_fk p iw T F') (h : aw_ps p iw F' ≤ aw_ps p iw F) : aw_wf p iw T (am_B F') ∧ aw_pot p iw (am_B F') < aw_pot p iw (am_E f e v k F) := by
  refine ⟨aw_wB_i w, ?_⟩
  rw [aw_pB, aw_pE]
  have := aw_G10 (aw_me iw f e + aw_mk p iw k)
  omega
theorem aw_toO (ok : ps_ok p iw T) (w : aw_wE p iw T f e v k F) : ∀ {l : List PV}, (∀ o, o ∈ l → aw_v o) → aw_wf p iw T (am_one k F l) ∧ aw_pot p iw (am_one k F l) < aw_pot p iw (am_E f e v k F)
  | [], _ => aw_toB w.1 (Nat.le_refl _)
  | o :: _, h => aw_toG ok w (h o List.mem_cons_self)
theorem aw_push (ok : ps_ok p iw T) (w : aw_wE p iw T f e v k F) (c : pg_k p f = 11 ∨ pg_k p f = 12) : aw_fk p iw T ((f, e, k, v, 0) :: F) ∧ aw_ps p iw ((f, e, k, v, 0) :: F) = aw_G (aw_me iw (pg_2 p f) e + aw_mk p iw k) + 1 + aw_ps p iw F := by
  obtain ⟨wF, wk, wv, wm, hf, we⟩ := w
  have hm := aw_m2 (e := e) ok hf (by omega) (by omega) (by omega)
  have hn : ¬ pg_k p f = 2 := by omega
  have e1 : aw_mfk p iw (f, e, k, v, 0) = aw_me iw (pg_2 p f) e + aw_mk p iw k := by rw [aw_mfk, if_neg hn]
  have e2 : aw_pf p iw (f, e, k, v, 0) = aw_G (aw_me iw (pg_2 p f) e + aw_mk p iw k) + 1 := by rw [aw_pf, if_neg hn, if_pos rfl]
  refine ⟨⟨wF, hf, we, wk, wv, Or.inr c, fun z => absurd z hn, Nat.zero_le _, by rw [e1]; omega⟩, ?_⟩
  rw [aw_ps, e2]
theorem aw_sE (ok : ps_ok p iw T) (w : aw_wE p iw T f e v k F) : aw_wf p iw T (am_ev p f e v k F) ∧ aw_pot p iw (am_ev p f e v k F) < aw_pot p iw (am_E f e v k F) := by
  obtain ⟨wF, wk, wv, wm, hf, we⟩ := w
  have w : aw_wE p iw T f e v k F := ⟨wF, wk, wv, wm, hf, we⟩
  rcases ps_kinds (ok.2 f hf).1 with c | c | c | c | c | c | c | c | c | c | c | c | c | c | c | c | c
  · rw [am_ev0 c]; exact aw_toG ok w wv
  · rw [am_ev1 c]; exact aw_toO ok w (aw_v_key wv)
  · rw [am_ev2 c]
    by_cases h1 : v.1 = 0
    · rw [if_pos h1]; exact aw_toB wF (Nat.le_refl _)
    · by_cases h2 : 12 < v.2
      · rw [if_neg h1, if_pos h2]; exact aw_toB wF (Nat.le_refl _)
      · rw [if_neg h1, if_neg h2]
        have hm : aw_me iw f e = 5 := by unfold aw_me; rw [ps_iw2 ok hf c]
        have e1 : aw_mfk p iw (f, e, k, v, 0) = aw_mk p iw k + 1 := by rw [aw_mfk, if_pos c]
        refine ⟨aw_wB_i ⟨wF, hf, we, wk, wv, Or.inl c, fun _ => ⟨h1, h2, Nat.zero_le _⟩, Nat.zero_le _, by rw [e1]; omega⟩, ?_⟩
        have := aw_G5 (aw_mk p iw k)
        have e2 : aw_pf p iw (f, e, k, v, 0) = 3 * (aw_G (aw_mk p iw k) + 1) + 1 := by rw [aw_pf, if_pos c]; rfl
        rw [aw_pB, aw_pE, aw_ps, e2, hm, Nat.add_comm 5]; omega
  · rw [am_ev3 c]; exact aw_toG ok w aw_v_0
  · rw [am_ev4 c]; exact aw_toG ok w (aw_v_var we)
  · rw [am_ev5 c]; exact aw_toB wF (Nat.le_refl _)
  · rw [am_ev6 c]
    cases hx : ps_fd 14 (-1) e with
    | nil => exact aw_toB wF (Nat.le_refl _)
    | cons x e' =>
      have hm := aw_m6 ok hf c (aw_e_ok ok.1 we) hx
      have h1 := ps_fd_cons (iw := iw) hx (aw_e_ok ok.1 we)
      exact aw_EE ⟨wF, wk, wv, by omega, h1.2.2, aw_e_tl we hx⟩ (by omega)
  · rw [am_ev7 c]
    cases hx : ps_fd 9 (-1) e with
    | nil => exact aw_toB (F' := []) trivial (Nat.zero_le _)
    | cons x e' => exact aw_toB (aw_fk_drop wF).1 (aw_fk_drop wF).2
  · rw [am_evR (by omega) (by omega) (by omega) (by omega) (by omega), c]
    have hm := aw_m1 (e := e) ok hf (Or.inl c)
    have e1 : aw_mk p iw ((8, f, e, v, 0) :: k) = 1 + aw_mk p iw k := rfl
    exact aw_EE ⟨wF, aw_k_i wk ⟨Or.inl rfl, fun _ => ⟨hf, c, we, wv⟩, (fun z => by cases z)⟩, wv, by omega, ps_c1 ok hf (by omega), we⟩ (by omega)
  · rw [am_ev9 c]
    have hm := aw_m1 (e := e) ok hf (Or.inr c)
    have hc : aw_me iw (pg_1 p f) ((9, nI f, 0, 0, F.length) :: e) = aw_me iw (pg_1 p f) e := aw_mc (by intro z; cases z)
    exact aw_EE ⟨wF, wk, wv, by omega, ps_c1 ok hf (by omega), aw_e_c we ⟨(show (9 : Nat) ≤ 17 by decide), (fun z => by cases z), (fun z => by cases z), fun _ => Nat.le_refl _⟩⟩ (by omega)
  · rw [am_evR (by omega) (by omega) (by omega) (by omega) (by omega), c]
    have hm := aw_m2 (e := e) ok hf (by omega) (by omega) (by omega)
    have e1 : aw_mk p iw ((10, f, e, v, 0) :: k) = (aw_me iw (pg_2 p f) e + 2) + aw_mk p iw k := rfl
    exact aw_EE ⟨wF, aw_k_i wk ⟨by simp, fun _ => ⟨hf, c, we, wv⟩, (fun z => by cases z)⟩, wv, by omega, ps_c1 ok hf (by omega), we⟩ (by omega)
  · rw [am_ev11 c]
    have hm := aw_m2 (e := e) ok hf (by omega) (by omega) (by omega)
    have h1 := aw_me1 (e := e) ok (ps_c1 ok hf (by omega))
    have h2 := aw_me1 (e := e) ok (ps_c2 ok hf (by omega))
    have hx := aw_push ok w (Or.inl c)
    refine ⟨⟨hx.1, aw_k_c wk, wv, ?_, ps_c1 ok hf (by omega), aw_e_mono we (Nat.le_succ _)⟩, ?_⟩
    · show F.length + 1 + (aw_me iw (pg_1 p f) e + aw_mk p iw k) ≤ 64; omega
    · rw [aw_pE, aw_pE, hx.2]
      have := aw_Gf (a := aw_me iw (pg_1 p f) e + aw_mk p iw k) (b := aw_me iw (pg_2 p f) e + aw_mk p iw k) (c := aw_me iw f e + aw_mk p iw k) (by omega) (by omega)
      omega
  · rw [am_ev12 c]
    have hm := aw_m2 (e := e) ok hf (by omega) (by omega) (by omega)
    have h1 := aw_me1 (e := e) ok (ps_c1 ok hf (by omega))
    have h2 := aw_me1 (e := e) ok (ps_c2 ok hf (by omega))
    have hx := aw_push ok w (Or.inr c)
    have e1 : aw_mk p iw ((12, f, e, v, F.length) :: k) = 1 + aw_mk p iw k := rfl
    have hq : aw_f p T ((f, e, k, v, 0) :: F) (12, f, e, v, F.length) := ⟨by simp, fun _ => ⟨hf, c, aw_e_mono we (Nat.le_succ _), wv⟩, fun _ => ⟨Nat.lt_succ_self _, by dsimp only; rw [am_nd, if_pos rfl]; exact c⟩⟩
    refine ⟨⟨hx.1, aw_k_i (aw_k_c wk) hq, wv, ?_, ps_c1 ok hf (by omega), aw_e_mono we (Nat.le_succ _)⟩, ?_⟩
    · show F.length + 1 + (aw_me iw (pg_1 p f) e + (1 + aw_mk p iw k)) ≤ 64; omega
    · rw [aw_pE, aw_pE, hx.2, e1]
      have := aw_Gf (a := aw_me iw (pg_1 p f) e + (1 + aw_mk p iw k)) (b := aw_me iw (pg_2 p f) e + aw_mk p iw k) (c := aw_me iw f e + aw_mk p iw k) (by omega) (by omega)
      omega
  · rw [am_evR (by omega) (by omega) (by omega) (by omega) (by omega), c]
    have hm := aw_m2 (e := e) ok hf (by omega) (by omega) (by omega)
    have e1 : aw_mk p iw ((13, f, e, v, 0) :: k) = (aw_me iw (pg_2 p f) e + 2) + aw_mk p iw k := rfl
    exact aw_EE ⟨wF, aw_k_i wk ⟨by simp, fun _ => ⟨hf, c, we, wv⟩, (fun z => by cases z)⟩, wv, by omega, ps_c1 ok hf (by omega), we⟩ (by omega)
  · rw [am_ev14 c]
    have hm := aw_m14 (e := e) ok hf c
    have h2 := ps_c2 ok hf (by omega)
    exact aw_EE ⟨wF, wk, wv, by omega, ps_c1 ok hf (by omega), aw_e_c we ⟨(show (14 : Nat) ≤ 17 by decide), fun _ => ⟨pg_2 p f, h2, rfl⟩, (fun z => by cases z), (fun z => by cases z)⟩⟩ (by omega)
  · rw [am_evR (by omega) (by omega) (by omega) (by omega) (by omega)]
    have hm := aw_m2 (e := e) ok hf (by omega) (by omega) (by omega)
    have hw : aw_mf p iw (pg_k p f, f, e, v, 0) = aw_me iw (pg_2 p f) e + 2 := by
      rw [aw_mf, if_pos (by dsimp only; omega)]
    have e1 : aw_mk p iw ((pg_k p f, f, e, v, 0) :: k) = aw_mf p iw (pg_k p f, f, e, v, 0) + aw_mk p iw k := rfl
    have hq : aw_f p T F (pg_k p f, f, e, v, 0) := ⟨by dsimp only; omega, fun _ => ⟨hf, rfl, we, wv⟩, (fun z => by dsimp only at z; omega)⟩
    exact aw_EE ⟨wF, aw_k_i wk hq, wv, by omega, ps_c1 ok hf (by omega), we⟩ (by omega)
  · rw [am_evR (by omega) (by omega) (by omega) (by omega) (by omega), c]
    have hm := aw_m3 (e := e) ok hf c
    have e1 : aw_mk p iw ((17, f, e, v, 0) :: k) = (aw_me iw (pg_2 p f) e + aw_me iw (pg_3 p f) e + 2) + aw_mk p iw k := rfl
    exact aw_EE ⟨wF, aw_k_i wk ⟨by simp, fun _ => ⟨hf, c, we, wv⟩, (fun z => by cases z)⟩, wv, by omega, ps_c1 ok hf (by omega), we⟩ (by omega)
end
section
variable {v : PV} {k : List AF} {F : List AK} {q : AF}
theorem aw_tG2 (w : aw_wG p iw T v (q :: k) F) {o : PV} (ho : aw_v o) : aw_wf p iw T (am_G o k F) ∧ aw_pot p iw (am_G o k F) < aw_pot p iw (am_G v (q :: k) F) := by
  have h1 := aw_mf1 (p := p) (iw := iw) q
  have h2 : F.length + (aw_mf p iw q + aw_mk p iw k) ≤ 64 := w.2.2.2
  have h3 : F.length + aw_mk p iw k ≤ 64 := by omega
  refine ⟨⟨w.1, (aw_k_e w.2.1).2, ho, h3⟩, ?_⟩
  rw [aw_pG, aw_pG, show aw_mk p iw (q :: k) = aw_mf p iw q + aw_mk p iw k from rfl]
  have := aw_Gl (a := aw_mk p iw k) (b := aw_mf p iw q + aw_mk p iw k) (by omega)
  omega
theorem aw_tB2 (w : aw_fk p iw T F) : aw_wf p iw T (am_B F) ∧ aw_pot p iw (am_B F) < aw_pot p iw (am_G v k F) := by
  refine ⟨aw_wB_i w, ?_⟩
  rw [aw_pB, aw_pG]
  have := aw_G10 (aw_mk p iw k)
  omega
theorem aw_tO2 (w : aw_wG p iw T v (q :: k) F) : ∀ {l : List PV}, (∀ o, o ∈ l → aw_v o) → aw_wf p iw T (am_one k F l) ∧ aw_pot p iw (am_one k F l) < aw_pot p iw (am_G v (q :: k) F)
  | [], _ => aw_tB2 w.1
  | o :: _, h => aw_tG2 w (h o List.mem_cons_self)
theorem aw_tE2 (w : aw_wG p iw T v (q :: k) F) {f' : Nat} {e' : PE} {v' : PV} {k' : List AF} (hk : aw_k p T F k') (hv : aw_v v') (hf : f' < T) (he : aw_e T F.length e') (hm : aw_me iw f' e' + aw_mk p iw k' < aw_mf p iw q + aw_mk p iw k) : aw_wf p iw T (am_E f' e' v' k' F) ∧ aw_pot p iw (am_E f' e' v' k' F) < aw_pot p iw (am_G v (q :: k) F) := by
  have h2 : F.length + (aw_mf p iw q + aw_mk p iw k) ≤ 64 := w.2.2.2
  have h3 : F.length + (aw_me iw f' e' + aw_mk p iw k') ≤ 64 := by omega
  refine ⟨⟨w.1, hk, hv, h3, hf, he⟩, ?_⟩
  rw [aw_pE, aw_pG, show aw_mk p iw (q :: k) = aw_mf p iw q + aw_mk p iw k from rfl]
  have := aw_Gl hm
  omega
theorem aw_sG (ok : ps_ok p iw T) : ∀ {k : List AF}, aw_wG p iw T v k F → aw_wf p iw T (am_gv p v k F) ∧ aw_pot p iw (am_gv p v k F) < aw_pot p iw (am_G v k F)
  | [], w => by
    refine ⟨⟨w.1, fun _ => w.2.2.1⟩, ?_⟩
    show aw_ps p iw F + 1 < aw_G 0 + aw_ps p iw F
    have := aw_G10 0
    omega
  | q :: k, w => by
    obtain ⟨hq, hk⟩ := aw_k_e w.2.1
    obtain ⟨t, nd, e, u, ix⟩ := q
    rcases hq.1 with c | c | c | c | c | c | c | c | c <;> dsimp only at c <;> subst c
    · rw [am_gv8]
      exact aw_tO2 w (aw_v_key (hq.2.1 (by show (8 : Nat) < 18; decide)).2.2.2)
    · rw [am_gv10]
      obtain ⟨h1, h2, h3, h4⟩ := hq.2.1 (by show (10 : Nat) < 18; decide)
      dsimp only at h1 h2 h3 h4
      exact aw_tE2 w hk w.2.2.1 (ps_c2 ok h1 (by omega)) h3 (by show _ < (aw_me iw (pg_2 p nd) e + 2) + _; omega)
    · rw [am_gv12]
      by_cases hz : ps_num p v = 0
      · rw [if_pos hz]; exact aw_tB2 w.1
      · rw [if_neg hz]
        obtain ⟨h1, h2⟩ := hq.2.2 rfl
        have h3 := aw_fk_sf w.1 h1 h2
        have h4 : F.length + (1 + aw_mk p iw k) ≤ 64 := w.2.2.2
        refine ⟨⟨h3.1, aw_k_sf hk, w.2.2.1, ?_⟩, ?_⟩
        · show (am_sf ix F).length + aw_mk p iw k ≤ 64
          rw [am_sf_len]; omega
        rw [aw_pG, aw_pG, show aw_mk p iw ((12, nd, e, u, ix) :: k) = 1 + aw_mk p iw k from rfl]
        have h5 := aw_Gl (a := aw_mk p iw k) (b := 1 + aw_mk p iw k) (by omega)
        have h6 := h3.2
        dsimp only at h6
        omega
    · rw [am_gv13]
      obtain ⟨h1, h2, h3, h4⟩ := hq.2.1 (by show (13 : Nat) < 18; decide)
      dsimp only at h1 h2 h3 h4
      refine aw_tE2 w hk h4 (ps_c2 ok h1 (by omega)) (aw_e_c h3 ⟨(show (13 : Nat) ≤ 17 by decide), (fun z => by cases z), fun _ => aw_v_bv w.2.2.1, (fun z => by cases z)⟩) ?_
      rw [aw_mc (by intro z; cases z)]
      show _ < (aw_me iw (pg_2 p nd) e + 2) + _
      omega
    · rw [am_gv15]
      obtain ⟨h1, h2, h3, h4⟩ := hq.2.1 (by show (15 : Nat) < 18; decide)
      dsimp only at h1 h2 h3 h4
      refine aw_tE2 w (aw_k_i hk ⟨by simp, (fun z => by dsimp only at z; omega), (fun z => by cases z)⟩) h4 (ps_c2 ok h1 (by omega)) h3 ?_
      show _ + (1 + _) < (aw_me iw (pg_2 p nd) e + 2) + _
      omega
    · rw [am_gv16]
      obtain ⟨h1, h2, h3, h4⟩ := hq.2.1 (by show (16 : Nat) < 18; decide)
      dsimp only at h1 h2 h3 h4
      refine aw_tE2 w (aw_k_i hk ⟨by simp, (fun z => by dsimp only at z; omega), (fun z => by cases z)⟩) h4 (ps_c2 ok h1 (by omega)) h3 ?_
      show _ + (1 + _) < (aw_me iw (pg_2 p nd) e + 2) + _
      omega
    · rw [am_gv17]
      obtain ⟨h1, h2, h3, h4⟩ := hq.2.1 (by show (17 : Nat) < 18; decide)
      dsimp only at h1 h2 h3 h4
      refine aw_tE2 w hk h4 (by split; exact ps_c3 ok h1 h2; exact ps_c2 ok h1 (by omega)) h3 ?_
      show _ < (aw_me iw (pg_2 p nd) e + aw_me iw (pg_3 p nd) e + 2) + _
      split <;> omega
    · rw [am_gv18]; exact aw_tG2 w aw_v_0
    · rw [am_gv19]; exact aw_tG2 w aw_v_0
theorem am_nc_ge {u : PV} : ∀ {n c : Nat}, c ≤ am_nc p u n c ∧ am_nc p u n c ≤ c + n
  | 0, c => ⟨Nat.le_refl _, Nat.le_refl _⟩
  | n + 1, c => by
    rw [am_nc]; split
    · have := am_nc_ge (u := u) (n := n) (c := c + 1); omega
    · omega
theorem aw_sB (ok : ps_ok p iw T) : ∀ {F : List AK}, aw_fk p iw T F → aw_wf p iw T (am_bk p F) ∧ aw_pot p iw (am_bk p F) < aw_pot p iw (am_B F)
  | [], _ => ⟨⟨trivial, (fun z => by cases z)⟩, by show 0 < 0 + 1; decide⟩
  | x :: F, w => by
    obtain ⟨f, e, k, v, c⟩ := x
    obtain ⟨wF, hf, we, wk, wv, wK, w2, w3, wm⟩ := w
    dsimp only at hf we wk wv wK w2 w3
    rw [am_bk_c]
    by_cases hk : pg_k p f = 2
    · obtain ⟨h1, h2, h3⟩ := w2 hk
      rw [if_pos hk]
      have hn := am_nc_ge (p := p) (u := v) (n := 3 - c) (c := c)
      rw [aw_mfk, if_pos hk] at wm
      dsimp only at wm
      by_cases hc : am_nc p v (3 - c) c < 3
      · rw [if_pos hc]
        refine ⟨⟨⟨wF, hf, we, wk, wv, wK, fun _ => ⟨h1, h2, by dsimp only; omega⟩, by dsimp only; omega, ?_⟩, aw_k_c wk, aw_v_ch wv h1 (Int32.not_lt.mp h2) hc, (show F.length + 1 + aw_mk p iw k ≤ 64 by omega)⟩, ?_⟩
        · rw [aw_mfk, if_pos hk]; exact wm
        · show aw_G (aw_mk p iw k) + aw_ps p iw ((f, e, k, v, am_nc p v (3 - c) c + 1) :: F) < aw_ps p iw ((f, e, k, v, c) :: F) + 1
          rw [aw_ps, aw_ps, aw_pf, aw_pf, if_pos hk, if_pos hk]
          dsimp only
          generalize aw_G (aw_mk p iw k) = g
          generalize hj : am_nc p v (3 - c) c = j at *
          have h5 : (3 - (j + 1)) * (g + 1) + (g + 1) ≤ (3 - c) * (g + 1) := by
            have h6 : 3 - (j + 1) + 1 ≤ 3 - c := by omega
            have h7 := Nat.mul_le_mul_right (g + 1) h6
            rw [Nat.add_mul, Nat.one_mul] at h7
            exact h7
          omega
      · rw [if_neg hc]
        refine ⟨aw_wB_i wF, ?_⟩
        show aw_ps p iw F + 1 < aw_ps p iw ((f, e, k, v, c) :: F) + 1
        rw [aw_ps, aw_pf, if_pos hk]; omega
    · rw [if_neg hk]
      rw [aw_mfk, if_neg hk] at wm
      dsimp only at wm
      by_cases hc : c = 0
      · rw [if_pos hc]
        refine ⟨⟨wF, wk, wv, (show F.length + (aw_me iw (pg_2 p f) e + aw_mk p iw k) ≤ 64 by omega), ps_c2 ok hf (by omega), we⟩, ?_⟩
        show aw_G (aw_me iw (pg_2 p f) e + aw_mk p iw k) + aw_ps p iw F < aw_ps p iw ((f, e, k, v, c) :: F) + 1
        rw [aw_ps, aw_pf, if_neg hk, if_pos hc]; dsimp only; omega
      · rw [if_neg hc]
        refine ⟨aw_wB_i wF, ?_⟩
        show aw_ps p iw F + 1 < aw_ps p iw ((f, e, k, v, c) :: F) + 1
        rw [aw_ps, aw_pf, if_neg hk, if_neg hc]; omega
end
end
end
section
/-! ===== the component's heap and forks as the machine's lists ===== -/
abbrev XH : Type := (Nat → Int32) × (Nat → Int32) × (Nat → Int32) × (Nat → Int32) × (Nat → Int32) × (Nat → Int32)
abbrev XF : Type := (Nat → Int32) × (Nat → Int32) × (Nat → Int32) × (Nat → Int32) × (Nat → Int32) × (Nat → Int32) × (Nat → Int32)
def xr_e (h : XH) : PE → Nat → Prop
  | [], c => c = 0
  | x :: e, c => 0 < c ∧ h.1 c = nI x.1 ∧ h.2.1 c = x.2.1 ∧ (x.1 = 13 → h.2.2.2.1 c = x.2.2.1 ∧ h.2.2.2.2.1 c = x.2.2.2.1) ∧ (x.1 = 9 → h.2.2.2.2.1 c = nI x.2.2.2.2) ∧ ∃ c', c' < c ∧ h.2.2.2.2.2 c = nI c' ∧ xr_e h e c'
def xr_k (h : XH) : List AF → Nat → Prop
  | [], c => c = 0
  | q :: k, c => 0 < c ∧ h.1 c = nI q.1 ∧ (q.1 < 18 → h.2.1 c = nI q.2.1 ∧ h.2.2.2.1 c = q.2.2.2.1.1 ∧ (q.1 ≠ 12 → h.2.2.2.2.1 c = q.2.2.2.1.2) ∧ ∃ ce, ce < c ∧ h.2.2.1 c = nI ce ∧ xr_e h q.2.2.1 ce) ∧ (q.1 = 12 → h.2.2.2.2.1 c = nI q.2.2.2.2) ∧ (18 ≤ q.1 → h.2.2.2.2.1 c = q.2.2.2.1.2) ∧ ∃ c', c' < c ∧ h.2.2.2.2.2 c = nI c' ∧ xr_k h k c'
def xr_f (h : XH) (g : XF) (M : AK → Nat) : List AK → Nat → Prop
  | [], t => 1 ≤ t
  | x :: F, t => ∃ b, b ≤ t ∧ g.1 F.length = nI x.1 ∧ (∃ ce, ce < b ∧ g.2.1 F.length = nI ce ∧ xr_e h x.2.1 ce) ∧ (∃ cc, cc < b ∧ g.2.2.1 F.length = nI cc ∧ xr_k h x.2.2.1 cc) ∧ g.2.2.2.1 F.length = x.2.2.2.1.1 ∧ g.2.2.2.2.1 F.length = x.2.2.2.1.2 ∧ g.2.2.2.2.2.1 F.length = nI b ∧ g.2.2.2.2.2.2 F.length = nI x.2.2.2.2 ∧ b + M x ≤ 128 ∧ xr_f h g M F b
def xr_ag (t : Nat) (h h' : XH) : Prop := ∀ j, j < t → h'.1 j = h.1 j ∧ h'.2.1 j = h.2.1 j ∧ h'.2.2.1 j = h.2.2.1 j ∧ h'.2.2.2.1 j = h.2.2.2.1 j ∧ h'.2.2.2.2.1 j = h.2.2.2.2.1 j ∧ h'.2.2.2.2.2 j = h.2.2.2.2.2 j
def xr_gg (n : Nat) (g g' : XF) : Prop := ∀ j, j < n → g'.1 j = g.1 j ∧ g'.2.1 j = g.2.1 j ∧ g'.2.2.1 j = g.2.2.1 j ∧ g'.2.2.2.1 j = g.2.2.2.1 j ∧ g'.2.2.2.2.1 j = g.2.2.2.2.1 j ∧ g'.2.2.2.2.2.1 j = g.2.2.2.2.2.1 j ∧ g'.2.2.2.2.2.2 j = g.2.2.2.2.2.2 j
section
variable {h h' : XH} {g g' : XF} {M : AK → Nat} {t : Nat}
theorem xr_e_ag (a : xr_ag t h h') : ∀ {e : PE} {c : Nat}, c < t → xr_e h e c → xr_e h' e c
  | [], _, _, r => r
  | x :: e, c, hc, ⟨r0, r1, r2, r3, r4, c', hc', r5, r6⟩ => by
    have q := a c hc
    refine ⟨r0, q.1.trans r1, q.2.1.trans r2, fun z => ⟨q.2.2.2.1.trans (r3 z).1, q.2.2.2.2.1.trans (r3 z).2⟩, fun z => q.2.2.2.2.1.trans (r4 z), c', hc', q.2.2.2.2.2.trans r5, xr_e_ag a (by omega) r6⟩
theorem xr_k_ag (a : xr_ag t h h') : ∀ {k : List AF} {c : Nat}, c < t → xr_k h k c → xr_k h' k c
  | [], _, _, r => r
  | x :: e, c, hc, ⟨r0, r1, r2, r3, r4, c', hc', r5, r6⟩ => by
    have q := a c hc
    refine ⟨r0, q.1.trans r1, fun z => ?_, fun z => q.2.2.2.2.1.trans (r3 z), fun z => q.2.2.2.2.1.trans (r4 z), c', hc', q.2.2.2.2.2.trans r5, xr_k_ag a (by omega) r6⟩
    obtain ⟨s1, s2, s3, ce, hce, s4, s5⟩ := r2 z
    exact ⟨q.2.1.trans s1, q.2.2.2.1.trans s2, fun y => q.2.2.2.2.1.trans (s3 y), ce, hce, q.2.2.1.trans s4, xr_e_ag a (by omega) s5⟩
theorem xr_f_ag : ∀ {F : List AK} {t : Nat}, xr_ag t h h' → xr_gg F.length g g' → xr_f h g M F t → xr_f h' g' M F t
  | [], _, _, _, r => r
  | x :: F, t, a, b, ⟨c, hc, r1, ⟨ce, q1, q2, q3⟩, ⟨cc, s1, s2, s3⟩, r4, r5, r6, r7, r8, r9⟩ => by
    have y := b F.length (Nat.lt_succ_self _)
    have a' : xr_ag c h h' := fun j hj => a j (by omega)
    exact ⟨c, hc, y.1.trans r1, ⟨ce, q1, y.2.1.trans q2, xr_e_ag a' q1 q3⟩, ⟨cc, s1, y.2.2.1.trans s2, xr_k_ag a' s1 s3⟩, y.2.2.2.1.trans r4, y.2.2.2.2.1.trans r5, y.2.2.2.2.2.1.trans r6, y.2.2.2.2.2.2.trans r7, r8, xr_f_ag a' (fun j hj => b j (Nat.lt_succ_of_lt hj)) r9⟩
theorem xr_f_up : ∀ {F : List AK} {t t' : Nat}, t ≤ t' → xr_f h g M F t → xr_f h g M F t'
  | [], _, _, ht, r => Nat.le_trans r ht
  | _ :: _, _, _, ht, ⟨c, hc, r⟩ => ⟨c, Nat.le_trans hc ht, r⟩
theorem xr_f_tl {x : AK} {F : List AK} (r : xr_f h g M (x :: F) t) : xr_f h g M F t := by
  obtain ⟨c, hc, r1, r2, r3, r4, r5, r6, r7, r8, r9⟩ := r
  exact xr_f_up hc r9
theorem xr_f_drop {j : Nat} : ∀ {F : List AK}, xr_f h g M F t → xr_f h g M (F.drop j) t := by
  induction j with
  | zero => intro F r; exact r
  | succ j ih =>
    intro F r
    cases F with
    | nil => exact r
    | cons x F => exact ih (xr_f_tl r)
theorem xr_f_1 : ∀ {F : List AK} {t : Nat}, xr_f h g M F t → 1 ≤ t
  | [], _, r => r
  | x :: F, t, ⟨c, hc, _, _, _, _, _, _, _, _, r9⟩ => Nat.le_trans (xr_f_1 r9) hc
theorem xr_ag_rf : xr_ag t h h := fun _ _ => ⟨rfl, rfl, rfl, rfl, rfl, rfl⟩
theorem xr_gg_rf {n : Nat} : xr_gg n g g := fun _ _ => ⟨rfl, rfl, rfl, rfl, rfl, rfl, rfl⟩
theorem xr_e_i {x : Nat × Int32 × Int32 × Int32 × Nat} {e : PE} {c' : Nat} (a : xr_ag t h h') (h0 : 0 < t) (h1 : h'.1 t = nI x.1) (h2 : h'.2.1 t = x.2.1) (h3 : x.1 = 13 → h'.2.2.2.1 t = x.2.2.1 ∧ h'.2.2.2.2.1 t = x.2.2.2.1) (h4 : x.1 = 9 → h'.2.2.2.2.1 t = nI x.2.2.2.2) (hc : c' < t) (h5 : h'.2.2.2.2.2 t = nI c') (r : xr_e h e c') : xr_e h' (x :: e) t :=
  ⟨h0, h1, h2, h3, h4, c', hc, h5, xr_e_ag a hc r⟩
end
theorem xr_ag_new {t : Nat} {cT cN cE cK cV cX : Nat → Int32} {a1 a2 a3 a4 a5 a6 : Int32} : xr_ag t (cT, cN, cE, cK, cV, cX) (upd cT t a1, upd cN t a2, upd cE t a3, upd cK t a4, upd cV t a5, upd cX t a6) :=
  fun _ hj => ⟨pb_u hj, pb_u hj, pb_u hj, pb_u hj, pb_u hj, pb_u hj⟩
theorem xr_ag_new2 {t : Nat} {cT cN cE cK cV cX : Nat → Int32} {a1 a2 a3 a4 a5 a6 b5 : Int32} : xr_ag t (cT, cN, cE, cK, cV, cX) (upd cT t a1, upd cN t a2, upd cE t a3, upd cK t a4, upd (upd cV t a5) t b5, upd cX t a6) :=
  fun _ hj => ⟨pb_u hj, pb_u hj, pb_u hj, pb_u hj, (pb_u hj).trans (pb_u hj), pb_u hj⟩
theorem xr_ag_new3 {t : Nat} {cT cN cE cK cV cX : Nat → Int32} {a1 a2 a3 a4 a5 a6 b4 : Int32} : xr_ag t (cT, cN, cE, cK, cV, cX) (upd cT t a1, upd cN t a2, upd cE t a3, upd (upd cK t a4) t b4, upd cV t a5, upd cX t a6) :=
  fun _ hj => ⟨pb_u hj, pb_u hj, pb_u hj, (pb_u hj).trans (pb_u hj), pb_u hj, pb_u hj⟩
theorem xr_gg_new {n : Nat} {gN gE gC gK gV gH gT : Nat → Int32} {a1 a2 a3 a4 a5 a6 a7 : Int32} : xr_gg n (gN, gE, gC, gK, gV, gH, gT) (upd gN n a1, upd gE n a2, upd gC n a3, upd gK n a4, upd gV n a5, upd gH n a6, upd gT n a7) :=
  fun _ hj => ⟨pb_u hj, pb_u hj, pb_u hj, pb_u hj, pb_u hj, pb_u hj, pb_u hj⟩
theorem xr_gg_T {n m : Nat} {gN gE gC gK gV gH gT : Nat → Int32} {a : Int32} (h : n ≤ m) : xr_gg n (gN, gE, gC, gK, gV, gH, gT) (gN, gE, gC, gK, gV, gH, upd gT m a) :=
  fun j hj => ⟨rfl, rfl, rfl, rfl, rfl, rfl, pk_un (show j ≠ m by omega)⟩
theorem xr_f_sf {h : XH} {gN gE gC gK gV gH gT : Nat → Int32} {M : AK → Nat} {m : Nat} (hM : ∀ x : AK, M (x.1, x.2.1, x.2.2.1, x.2.2.2.1, 1) = M x) : ∀ {F : List AK} {t : Nat}, xr_f h (gN, gE, gC, gK, gV, gH, gT) M F t → xr_f h (gN, gE, gC, gK, gV, gH, upd gT m 1) M (am_sf m F) t
  | [], _, r => r
  | x :: F, t, ⟨c, hc, r1, r2, r3, r4, r5, r6, r7, r8, r9⟩ => by
    rw [am_sf]
    by_cases e : F.length = m
    · rw [if_pos e]
      refine ⟨c, hc, r1, r2, r3, r4, r5, r6, ?_, by rw [hM]; exact r8, xr_f_ag xr_ag_rf (xr_gg_T (Nat.le_of_eq e)) r9⟩
      show upd gT m 1 F.length = 1
      rw [e]; exact pk_us
    · rw [if_neg e]
      have ih := xr_f_sf (m := m) hM r9
      have hl := am_sf_len (m := m) (F := F)
      refine ⟨c, hc, ?_, ?_, ?_, ?_, ?_, ?_, ?_, r8, ih⟩
      all_goals rw [hl]
      · exact r1
      · exact r2
      · exact r3
      · exact r4
      · exact r5
      · exact r6
      · exact (pk_un e).trans r7
/-! what stands for a configuration -/
section
variable (p : PG) (iw : Nat → Nat → Nat)
def xr_E (f : Nat) (e : PE) (v : PV) (k : List AF) (F : List AK) (ht ft nd en co vk vl : Int32) (h : XH) (g : XF) : Prop :=
  ∃ t ce cc, ht = nI t ∧ ft = nI F.length ∧ nd = nI f ∧ en = nI ce ∧ co = nI cc ∧ vk = v.1 ∧ vl = v.2 ∧ ce < t ∧ cc < t ∧ xr_e h e ce ∧ xr_k h k cc ∧ xr_f h g (aw_mfk p iw) F t ∧ t + (aw_me iw f e + aw_mk p iw k) ≤ 128
def xr_G (v : PV) (k : List AF) (F : List AK) (ht ft co vk vl : Int32) (h : XH) (g : XF) : Prop :=
  ∃ t cc, ht = nI t ∧ ft = nI F.length ∧ co = nI cc ∧ vk = v.1 ∧ vl = v.2 ∧ cc < t ∧ xr_k h k cc ∧ xr_f h g (aw_mfk p iw) F t ∧ t + aw_mk p iw k ≤ 128
def xr_B (F : List AK) (ht ft : Int32) (h : XH) (g : XF) : Prop := ∃ t, ht = nI t ∧ ft = nI F.length ∧ t ≤ 128 ∧ xr_f h g (aw_mfk p iw) F t
def xr_m (c : AC) (ht ft md nd en co vk vl : Int32) (h : XH) (g : XF) : Prop :=
  if c.1 = 0 then md = 0 ∧ xr_E p iw c.2.1 c.2.2.1 c.2.2.2.2.1 c.2.2.2.1 c.2.2.2.2.2 ht ft nd en co vk vl h g
  else if c.1 = 1 then md = 1 ∧ xr_G p iw c.2.2.2.2.1 c.2.2.2.1 c.2.2.2.2.2 ht ft co vk vl h g
  else if c.1 = 2 then md = 2 ∧ xr_B p iw c.2.2.2.2.2 ht ft h g
  else if c.1 = 3 then md = 3 ∧ xr_B p iw c.2.2.2.2.2 ht ft h g ∧ vk = c.2.2.2.2.1.1 ∧ vl = c.2.2.2.2.1.2
  else md = 4
end
/-- the component's tokens are the program's -/
def xr_p (p : PG) (T : Nat) (ka ar c1 c2 c3 : Nat → Int32) : Prop := ∀ i, i < T → ka i = nI (pg_k p i) ∧ ar i = pg_a p i ∧ (8 ≤ pg_k p i → c1 i = nI (pg_1 p i)) ∧ (10 ≤ pg_k p i → c2 i = nI (pg_2 p i)) ∧ (pg_k p i = 17 → c3 i = nI (pg_3 p i))
section
variable {p : PG} {iw : Nat → Nat → Nat} {f : Nat} {e : PE} {v : PV} {k : List AF} {F : List AK} {ht ft nd en co vk vl : Int32} {h : XH} {g : XF}
theorem xr_mE (r : xr_E p iw f e v k F ht ft nd en co vk vl h g) : xr_m p iw (am_E f e v k F) ht ft 0 nd en co vk vl h g := ⟨rfl, r⟩
theorem xr_mG (r : xr_G p iw v k F ht ft co vk vl h g) : xr_m p iw (am_G v k F) ht ft 1 nd en co vk vl h g := ⟨rfl, r⟩
theorem xr_mB (r : xr_B p iw F ht ft h g) : xr_m p iw (am_B F) ht ft 2 nd en co vk vl h g := ⟨rfl, r⟩
end
end
section
/-! ===== the component's evaluate is the machine's am_ev ===== -/
def xr_H (p : PG) (iw : Nat → Nat → Nat) (post : SX → Prop) (k0 k1 k2 k3 k4 k5 k6 k7 k8 k9 k10 rm tc fc tw st fe : Int32) (pr nu np nn tg ka ar c1 c2 c3 ro we op : Nat → Int32) (c : AC) : Prop :=
  ∀ (ht ft md nd en co vk vl : Int32) (h : XH) (g : XF), xr_m p iw c ht ft md nd en co vk vl h g → post (k0, k1, k2, k3, k4, k5, k6, k7, k8, k9, k10, rm, tc, fc, tw, ht, ft, md, nd, en, co, vk, vl, st, fe, pr, nu, np, nn, tg, ka, ar, c1, c2, c3, ro, we, op, h.1, h.2.1, h.2.2.1, h.2.2.2.1, h.2.2.2.2.1, h.2.2.2.2.2, g.1, g.2.1, g.2.2.1, g.2.2.2.1, g.2.2.2.2.1, g.2.2.2.2.2.1, g.2.2.2.2.2.2)
section
variable {k0 k1 k2 k3 k4 k5 k6 k7 k8 k9 k10 rm tc fc tw ht ft md nd en co vk vl st fe : Int32} {pr nu np nn tg ka ar c1 c2 c3 ro we op cT cN cE cK cV cX gN gE gC gK gV gH gT : Nat → Int32}
theorem xq_newCell {post : Int32 → SX → Prop} {t : Nat} {a b c : Int32} (h1 : t < 128) (H : post (nI t) (k0, k1, k2, k3, k4, k5, k6, k7, k8, k9, k10, rm, tc, fc, tw, nI (t + 1), ft, md, nd, en, co, vk, vl, st, fe, pr, nu, np, nn, tg, ka, ar, c1, c2, c3, ro, we, op, upd cT t a, upd cN t b, upd cE t en, upd cK t vk, upd cV t vl, upd cX t c, gN, gE, gC, gK, gV, gH, gT)) : wpX_newCell post (k0, k1, k2, k3, k4, k5, k6, k7, k8, k9, k10, rm, tc, fc, tw, nI t, ft, md, nd, en, co, vk, vl, st, fe, pr, nu, np, nn, tg, ka, ar, c1, c2, c3, ro, we, op, cT, cN, cE, cK, cV, cX, gN, gE, gC, gK, gV, gH, gT) a b c := by
  have cl : (nI t).toNatClampNeg = t := nI_clamp (by omega)
  have hi : vp_in (nI t) 128 := vp_in_nI h1 (by omega)
  exact br_t (nI_lt (b := 128) h1 (by decide)) (nm_r (nI_1 t) ⟨hi, nm_r (congrArg (fun z => upd cT z a) cl) ⟨hi, nm_r (congrArg (fun z => upd cN z b) cl) ⟨hi, nm_r (congrArg (fun z => upd cE z en) cl) ⟨hi, nm_r (congrArg (fun z => upd cK z vk) cl) ⟨hi, nm_r (congrArg (fun z => upd cV z vl) cl) ⟨hi, nm_r (congrArg (fun z => upd cX z c) cl) H⟩⟩⟩⟩⟩⟩)
theorem xq_pushFork {post : SX → Prop} {n : Nat} (h1 : n < 64) (H : post (k0, k1, k2, k3, k4, k5, k6, k7, k8, k9, k10, rm, tc, fc, tw, ht, nI (n + 1), md, nd, en, co, vk, vl, st, fe, pr, nu, np, nn, tg, ka, ar, c1, c2, c3, ro, we, op, cT, cN, cE, cK, cV, cX, upd gN n nd, upd gE n en, upd gC n co, upd gK n vk, upd gV n vl, upd gH n ht, upd gT n 0)) : wpX_pushFork post (k0, k1, k2, k3, k4, k5, k6, k7, k8, k9, k10, rm, tc, fc, tw, ht, nI n, md, nd, en, co, vk, vl, st, fe, pr, nu, np, nn, tg, ka, ar, c1, c2, c3, ro, we, op, cT, cN, cE, cK, cV, cX, gN, gE, gC, gK, gV, gH, gT) := by
  have cl : (nI n).toNatClampNeg = n := nI_clamp (by omega)
  have hi : vp_in (nI n) 64 := vp_in_nI h1 (by omega)
  exact br_t (nI_lt (b := 64) h1 (by decide)) (nm_r (nI_1 n) ⟨hi, nm_r (congrArg (fun z => upd gN z nd) cl) ⟨hi, nm_r (congrArg (fun z => upd gE z en) cl) ⟨hi, nm_r (congrArg (fun z => upd gC z co) cl) ⟨hi, nm_r (congrArg (fun z => upd gK z vk) cl) ⟨hi, nm_r (congrArg (fun z => upd gV z vl) cl) ⟨hi, nm_r (congrArg (fun z => upd gH z ht) cl) ⟨hi, nm_r (congrArg (fun z => upd gT z 0) cl) H⟩⟩⟩⟩⟩⟩⟩)
theorem xq_giveKey {post : SX → Prop} {a : Int32} (HB : ps_key a (vk, vl) = [] → post (k0, k1, k2, k3, k4, k5, k6, k7, k8, k9, k10, rm, tc, fc, tw, ht, ft, 2, nd, en, co, vk, vl, st, fe, pr, nu, np, nn, tg, ka, ar, c1, c2, c3, ro, we, op, cT, cN, cE, cK, cV, cX, gN, gE, gC, gK, gV, gH, gT)) (HG : ∀ o, ps_key a (vk, vl) = [o] → post (k0, k1, k2, k3, k4, k5, k6, k7, k8, k9, k10, rm, tc, fc, tw, ht, ft, 1, nd, en, co, o.1, o.2, st, fe, pr, nu, np, nn, tg, ka, ar, c1, c2, c3, ro, we, op, cT, cN, cE, cK, cV, cX, gN, gE, gC, gK, gV, gH, gT)) : wpX_giveKey post (k0, k1, k2, k3, k4, k5, k6, k7, k8, k9, k10, rm, tc, fc, tw, ht, ft, md, nd, en, co, vk, vl, st, fe, pr, nu, np, nn, tg, ka, ar, c1, c2, c3, ro, we, op, cT, cN, cE, cK, cV, cX, gN, gE, gC, gK, gV, gH, gT) a := by
  unfold ps_key at HB HG
  dsimp only at HB HG
  refine br_c (fun h => HB (if_pos h)) (fun h => br_c (fun h2 => HB ?_) (fun h2 => br_c (fun h3 => HB ?_) (fun h3 => br_c (fun h4 => nm_e (HG (vk, 3 * vl + 1 + a) ?_)) (fun h4 => HB ?_))))
  · rw [if_neg h, if_pos h2]
  · rw [if_neg h, if_neg h2, if_pos h3]
  · rw [if_neg h, if_neg h2, if_neg h3, if_pos h4]
  · rw [if_neg h, if_neg h2, if_neg h3, if_neg h4]
theorem xq_find {K t : Nat} {s : Int32} (hK : K ≤ 17) (h2 : t ≤ 128) : ∀ {e : PE} {c : Nat}, (∀ x, x ∈ e → x.1 ≤ 17) → c < t → xr_e (cT, cN, cE, cK, cV, cX) e c → ∃ c', c' < t ∧ xr_e (cT, cN, cE, cK, cV, cX) (ps_fd K s e) c' ∧ ∀ (post : Int32 → Prop), post (nI c') → ∀ n i, e.length < n → i + c ≤ t → wX_find_8 post (nI K) s k0 k1 k2 k3 k4 k5 k6 k7 k8 k9 k10 rm tc fc tw (nI t) ft md nd en co vk vl st fe pr nu np nn tg ka ar c1 c2 c3 ro we op cT cN cE cK cV cX gN gE gC gK gV gH gT n (nI c) (nI i)
  | [], c, _, hc, r => by
    have r0 : c = 0 := r
    subst r0
    refine ⟨0, hc, rfl, fun post hp n i hn hi => ?_⟩
    obtain ⟨n, rfl⟩ : ∃ m, n = m + 1 := ⟨n - 1, by omega⟩
    by_cases hti : t ≤ i
    · exact br_t (nI_le hti (by omega)) hp
    · exact br_f (nI_ge (by omega) (by omega)) (br_t rfl hp)
  | x :: e, c, hx, hc, r => by
    obtain ⟨r0, r1, r2, r3, r4, c', hc', r5, r6⟩ := r
    have r : xr_e (cT, cN, cE, cK, cV, cX) (x :: e) c := ⟨r0, r1, r2, r3, r4, c', hc', r5, r6⟩
    dsimp only at r1 r2 r5
    have cl : (nI c).toNatClampNeg = c := nI_clamp (by omega)
    have hi : vp_in (nI c) 128 := vp_in_nI (by omega) (by omega)
    have hx1 := hx x List.mem_cons_self
    by_cases hm : x.1 = K ∧ (s < 0 ∨ x.2.1 = s)
    · refine ⟨c, hc, by rw [ps_fd, if_pos hm]; exact r, fun post hp n i hn hi' => ?_⟩
      obtain ⟨n, rfl⟩ : ∃ m, n = m + 1 := ⟨n - 1, by omega⟩
      refine br_f (nI_ge (by omega) (by omega)) (br_f (nI_ne0 r0 (by omega)) ⟨hi, br_t (by rw [cl, r1, hm.1]) (br_c (fun _ => hp) (fun hn => ⟨hi, br_t ?_ hp⟩))⟩)
      rw [cl, r2]; exact hm.2.resolve_left hn
    · obtain ⟨c'', h1, h3, ih⟩ := xq_find (s := s) hK h2 (fun z hz => hx z (List.mem_cons_of_mem _ hz)) (Nat.lt_trans hc' hc) r6
      refine ⟨c'', h1, by rw [ps_fd, if_neg hm]; exact h3, fun post hp n i hn hi' => ?_⟩
      obtain ⟨n, rfl⟩ : ∃ m, n = m + 1 := ⟨n - 1, by omega⟩
      rw [List.length_cons] at hn
      have nx := ih post hp n (i + 1) (by omega) (by omega)
      refine br_f (nI_ge (by omega) (by omega)) (br_f (nI_ne0 r0 (by omega)) ⟨hi, ?_⟩)
      by_cases hk : x.1 = K
      · have hs : ¬ s < 0 := fun z => hm ⟨hk, Or.inl z⟩
        refine br_t (by rw [cl, r1, hk]) (br_f hs ⟨hi, br_f ?_ ⟨hi, nm_r (e' := nI c') (by rw [cl, r5]) (nm_r (nI_1 i) nx)⟩⟩)
        rw [cl, r2]; exact fun z => hm ⟨hk, Or.inr z⟩
      · refine br_f ?_ ⟨hi, nm_r (e' := nI c') (by rw [cl, r5]) (nm_r (nI_1 i) nx)⟩
        rw [cl, r1]; exact pb_ne (by omega) (by omega) hk
end
section
variable {p : PG} {iw : Nat → Nat → Nat} {T f : Nat} {e : PE} {v : PV} {k : List AF} {F : List AK} {post : SX → Prop} {k0 k1 k2 k3 k4 k5 k6 k7 k8 k9 k10 rm tc fc tw ht ft md nd en co vk vl st fe : Int32} {pr nu np nn tg ka ar c1 c2 c3 ro we op cT cN cE cK cV cX gN gE gC gK gV gH gT : Nat → Int32}
theorem xs_ev0 (ok : ps_ok p iw T) (xp : xr_p p T ka ar c1 c2 c3) (w : aw_wE p iw T f e v k F) (r : xr_E p iw f e v k F ht ft nd en co vk vl (cT, cN, cE, cK, cV, cX) (gN, gE, gC, gK, gV, gH, gT)) (H : xr_H p iw post k0 k1 k2 k3 k4 k5 k6 k7 k8 k9 k10 rm tc fc tw st fe pr nu np nn tg ka ar c1 c2 c3 ro we op (am_ev p f e v k F)) (c : pg_k p f = 0) : wpX_evaluate post (k0, k1, k2, k3, k4, k5, k6, k7, k8, k9, k10, rm, tc, fc, tw, ht, ft, 0, nd, en, co, vk, vl, st, fe, pr, nu, np, nn, tg, ka, ar, c1, c2, c3, ro, we, op, cT, cN, cE, cK, cV, cX, gN, gE, gC, gK, gV, gH, gT) := by
  obtain ⟨t, ce, cc, rfl, rfl, rfl, rfl, rfl, rfl, rfl, hce, hcc, re, rk, rf, hm⟩ := r
  have hf := w.2.2.2.2.1
  have h32 := ok.1
  have cl : (nI f).toNatClampNeg = f := nI_clamp (by omega)
  have hi : vp_in (nI f) 32 := vp_in_nI (by omega) (by omega)
  rw [am_ev0 c] at H
  refine ⟨hi, nm_r (e' := 0) (by rw [cl, (xp f hf).1, c]; rfl) (br_f (by decide) (br_f (by decide) (br_f (by decide) (br_t rfl ?_))))⟩
  exact H _ _ _ (nI f) (nI ce) _ _ _ (cT, cN, cE, cK, cV, cX) (gN, gE, gC, gK, gV, gH, gT) (xr_mG ⟨t, cc, rfl, rfl, rfl, rfl, rfl, hcc, rk, rf, by omega⟩)
theorem xs_ev1 (ok : ps_ok p iw T) (xp : xr_p p T ka ar c1 c2 c3) (w : aw_wE p iw T f e v k F) (r : xr_E p iw f e v k F ht ft nd en co vk vl (cT, cN, cE, cK, cV, cX) (gN, gE, gC, gK, gV, gH, gT)) (H : xr_H p iw post k0 k1 k2 k3 k4 k5 k6 k7 k8 k9 k10 rm tc fc tw st fe pr nu np nn tg ka ar c1 c2 c3 ro we op (am_ev p f e v k F)) (c : pg_k p f = 1) : wpX_evaluate post (k0, k1, k2, k3, k4, k5, k6, k7, k8, k9, k10, rm, tc, fc, tw, ht, ft, 0, nd, en, co, vk, vl, st, fe, pr, nu, np, nn, tg, ka, ar, c1, c2, c3, ro, we, op, cT, cN, cE, cK, cV, cX, gN, gE, gC, gK, gV, gH, gT) := by
  obtain ⟨t, ce, cc, rfl, rfl, rfl, rfl, rfl, rfl, rfl, hce, hcc, re, rk, rf, hm⟩ := r
  have hf := w.2.2.2.2.1
  have h32 := ok.1
  have cl : (nI f).toNatClampNeg = f := nI_clamp (by omega)
  have hi : vp_in (nI f) 32 := vp_in_nI (by omega) (by omega)
  rw [am_ev1 c] at H
  have ha : ar (nI f).toNatClampNeg = pg_a p f := by rw [cl]; exact (xp f hf).2.1
  refine ⟨hi, nm_r (e' := 1) (by rw [cl, (xp f hf).1, c]; rfl) (br_f (by decide) (br_f (by decide) (br_f (by decide) (br_f (by decide) (br_t rfl ⟨hi, ?_⟩)))))⟩
  rw [ha]
  refine xq_giveKey (fun hk => ?_) (fun o hk => ?_)
  · have hk' : ps_key (pg_a p f) v = [] := hk
    rw [hk'] at H
    exact H _ _ _ (nI f) (nI ce) (nI cc) _ _ (cT, cN, cE, cK, cV, cX) (gN, gE, gC, gK, gV, gH, gT) (xr_mB ⟨t, rfl, rfl, by omega, rf⟩)
  · have hk' : ps_key (pg_a p f) v = [o] := hk
    rw [hk'] at H
    exact H _ _ _ (nI f) (nI ce) _ _ _ (cT, cN, cE, cK, cV, cX) (gN, gE, gC, gK, gV, gH, gT) (xr_mG ⟨t, cc, rfl, rfl, rfl, rfl, rfl, hcc, rk, rf, by omega⟩)
theorem xs_ev2 (ok : ps_ok p iw T) (xp : xr_p p T ka ar c1 c2 c3) (w : aw_wE p iw T f e v k F) (r : xr_E p iw f e v k F ht ft nd en co vk vl (cT, cN, cE, cK, cV, cX) (gN, gE, gC, gK, gV, gH, gT)) (H : xr_H p iw post k0 k1 k2 k3 k4 k5 k6 k7 k8 k9 k10 rm tc fc tw st fe pr nu np nn tg ka ar c1 c2 c3 ro we op (am_ev p f e v k F)) (c : pg_k p f = 2) : wpX_evaluate post (k0, k1, k2, k3, k4, k5, k6, k7, k8, k9, k10, rm, tc, fc, tw, ht, ft, 0, nd, en, co, vk, vl, st, fe, pr, nu, np, nn, tg, ka, ar, c1, c2, c3, ro, we, op, cT, cN, cE, cK, cV, cX, gN, gE, gC, gK, gV, gH, gT) := by
  obtain ⟨t, ce, cc, rfl, rfl, rfl, rfl, rfl, rfl, rfl, hce, hcc, re, rk, rf, hm⟩ := r
  have hf := w.2.2.2.2.1
  have hw := w.2.2.2.1
  have h32 := ok.1
  have cl : (nI f).toNatClampNeg = f := nI_clamp (by omega)
  have hi : vp_in (nI f) 32 := vp_in_nI (by omega) (by omega)
  have hme := aw_me1 (e := e) ok hf
  rw [am_ev2 c] at H
  refine ⟨hi, nm_r (e' := 2) (by rw [cl, (xp f hf).1, c]; rfl) (br_f (by decide) (br_f (by decide) (br_f (by decide) (br_f (by decide) (br_f (by decide) (br_t rfl ?_))))))⟩
  by_cases h1 : v.1 = 0
  · rw [if_pos h1] at H
    exact br_t h1 (H _ _ _ (nI f) (nI ce) (nI cc) _ _ (cT, cN, cE, cK, cV, cX) (gN, gE, gC, gK, gV, gH, gT) (xr_mB ⟨t, rfl, rfl, by omega, rf⟩))
  · rw [if_neg h1] at H
    by_cases h2 : 12 < v.2
    · rw [if_pos h2] at H
      exact br_f h1 (br_t h2 (H _ _ _ (nI f) (nI ce) (nI cc) _ _ (cT, cN, cE, cK, cV, cX) (gN, gE, gC, gK, gV, gH, gT) (xr_mB ⟨t, rfl, rfl, by omega, rf⟩)))
    · rw [if_neg h2] at H
      refine br_f h1 (br_f h2 (xq_pushFork (n := F.length) (by omega) ?_))
      refine H _ _ _ (nI f) (nI ce) (nI cc) _ _ (cT, cN, cE, cK, cV, cX) (upd gN F.length (nI f), upd gE F.length (nI ce), upd gC F.length (nI cc), upd gK F.length v.1, upd gV F.length v.2, upd gH F.length (nI t), upd gT F.length 0) (xr_mB ⟨t, rfl, rfl, by omega, t, Nat.le_refl _, pk_us, ⟨ce, hce, pk_us, re⟩, ⟨cc, hcc, pk_us, rk⟩, pk_us, pk_us, pk_us, pk_us, ?_, xr_f_ag xr_ag_rf xr_gg_new rf⟩)
      have h5 : aw_me iw f e = 5 := by unfold aw_me; rw [ps_iw2 ok hf c]
      rw [aw_mfk, if_pos c]; dsimp only; omega
theorem xs_ev3 (ok : ps_ok p iw T) (xp : xr_p p T ka ar c1 c2 c3) (w : aw_wE p iw T f e v k F) (r : xr_E p iw f e v k F ht ft nd en co vk vl (cT, cN, cE, cK, cV, cX) (gN, gE, gC, gK, gV, gH, gT)) (H : xr_H p iw post k0 k1 k2 k3 k4 k5 k6 k7 k8 k9 k10 rm tc fc tw st fe pr nu np nn tg ka ar c1 c2 c3 ro we op (am_ev p f e v k F)) (c : pg_k p f = 3) : wpX_evaluate post (k0, k1, k2, k3, k4, k5, k6, k7, k8, k9, k10, rm, tc, fc, tw, ht, ft, 0, nd, en, co, vk, vl, st, fe, pr, nu, np, nn, tg, ka, ar, c1, c2, c3, ro, we, op, cT, cN, cE, cK, cV, cX, gN, gE, gC, gK, gV, gH, gT) := by
  obtain ⟨t, ce, cc, rfl, rfl, rfl, rfl, rfl, rfl, rfl, hce, hcc, re, rk, rf, hm⟩ := r
  have hf := w.2.2.2.2.1
  have h32 := ok.1
  have cl : (nI f).toNatClampNeg = f := nI_clamp (by omega)
  have hi : vp_in (nI f) 32 := vp_in_nI (by omega) (by omega)
  rw [am_ev3 c] at H
  have ha : ar (nI f).toNatClampNeg = pg_a p f := by rw [cl]; exact (xp f hf).2.1
  refine ⟨hi, nm_r (e' := 3) (by rw [cl, (xp f hf).1, c]; rfl) (br_f (by decide) (br_f (by decide) (br_f (by decide) (br_f (by decide) (br_f (by decide) (br_f (by decide) (br_t rfl ⟨hi, ?_⟩)))))))⟩
  rw [ha]
  exact H _ _ _ (nI f) (nI ce) _ _ _ (cT, cN, cE, cK, cV, cX) (gN, gE, gC, gK, gV, gH, gT) (xr_mG ⟨t, cc, rfl, rfl, rfl, rfl, rfl, hcc, rk, rf, by omega⟩)
theorem xs_ev4 (ok : ps_ok p iw T) (xp : xr_p p T ka ar c1 c2 c3) (w : aw_wE p iw T f e v k F) (r : xr_E p iw f e v k F ht ft nd en co vk vl (cT, cN, cE, cK, cV, cX) (gN, gE, gC, gK, gV, gH, gT)) (H : xr_H p iw post k0 k1 k2 k3 k4 k5 k6 k7 k8 k9 k10 rm tc fc tw st fe pr nu np nn tg ka ar c1 c2 c3 ro we op (am_ev p f e v k F)) (c : pg_k p f = 4) : wpX_evaluate post (k0, k1, k2, k3, k4, k5, k6, k7, k8, k9, k10, rm, tc, fc, tw, ht, ft, 0, nd, en, co, vk, vl, st, fe, pr, nu, np, nn, tg, ka, ar, c1, c2, c3, ro, we, op, cT, cN, cE, cK, cV, cX, gN, gE, gC, gK, gV, gH, gT) := by
  obtain ⟨t, ce, cc, rfl, rfl, rfl, rfl, rfl, rfl, rfl, hce, hcc, re, rk, rf, hm⟩ := r
  have hf := w.2.2.2.2.1
  have h32 := ok.1
  have cl : (nI f).toNatClampNeg = f := nI_clamp (by omega)
  have hi : vp_in (nI f) 32 := vp_in_nI (by omega) (by omega)
  rw [am_ev4 c] at H
  have ha : ar (nI f).toNatClampNeg = pg_a p f := by rw [cl]; exact (xp f hf).2.1
  refine ⟨hi, nm_r (e' := 4) (by rw [cl, (xp f hf).1, c]; rfl) (br_f (by decide) (br_f (by decide) (br_f (by decide) (br_f (by decide) (br_f (by decide) (br_f (by decide) (br_f (by decide) (br_t rfl ⟨hi, ?_⟩))))))))⟩
  rw [ha]
  obtain ⟨c', h1, h2, h3⟩ := xq_find (K := 13) (t := t) (s := pg_a p f) (by decide) (by omega) (fun x hx => (w.2.2.2.2.2 x hx).1) hce re
  refine ⟨e.length + 1, h3 _ ?_ _ 0 (by omega) (by omega)⟩
  rw [ps_var] at H
  cases hx : ps_fd 13 (pg_a p f) e with
  | nil =>
    rw [hx] at H h2
    have h0 : c' = 0 := h2
    subst h0
    exact br_t rfl (H _ _ _ (nI f) (nI ce) _ _ _ (cT, cN, cE, cK, cV, cX) (gN, gE, gC, gK, gV, gH, gT) (xr_mG ⟨t, cc, rfl, rfl, rfl, rfl, rfl, hcc, rk, rf, by omega⟩))
  | cons x e' =>
    rw [hx] at H h2
    obtain ⟨r0, r1, r2, r3, r4, r5⟩ := h2
    have hv := r3 (ps_fd_hd hx).1
    have cl' : (nI c').toNatClampNeg = c' := nI_clamp (by omega)
    have hi' : vp_in (nI c') 128 := vp_in_nI (by omega) (by omega)
    refine br_f (nI_ne0 r0 (by omega)) ⟨hi', nm_r (e' := x.2.2.1) (by rw [cl']; exact hv.1) ⟨hi', nm_r (e' := x.2.2.2.1) (by rw [cl']; exact hv.2) ?_⟩⟩
    exact H _ _ _ (nI f) (nI ce) _ _ _ (cT, cN, cE, cK, cV, cX) (gN, gE, gC, gK, gV, gH, gT) (xr_mG ⟨t, cc, rfl, rfl, rfl, rfl, rfl, hcc, rk, rf, by omega⟩)
theorem xs_ev5 (ok : ps_ok p iw T) (xp : xr_p p T ka ar c1 c2 c3) (w : aw_wE p iw T f e v k F) (r : xr_E p iw f e v k F ht ft nd en co vk vl (cT, cN, cE, cK, cV, cX) (gN, gE, gC, gK, gV, gH, gT)) (H : xr_H p iw post k0 k1 k2 k3 k4 k5 k6 k7 k8 k9 k10 rm tc fc tw st fe pr nu np nn tg ka ar c1 c2 c3 ro we op (am_ev p f e v k F)) (c : pg_k p f = 5) : wpX_evaluate post (k0, k1, k2, k3, k4, k5, k6, k7, k8, k9, k10, rm, tc, fc, tw, ht, ft, 0, nd, en, co, vk, vl, st, fe, pr, nu, np, nn, tg, ka, ar, c1, c2, c3, ro, we, op, cT, cN, cE, cK, cV, cX, gN, gE, gC, gK, gV, gH, gT) := by
  obtain ⟨t, ce, cc, rfl, rfl, rfl, rfl, rfl, rfl, rfl, hce, hcc, re, rk, rf, hm⟩ := r
  have hf := w.2.2.2.2.1
  have h32 := ok.1
  have cl : (nI f).toNatClampNeg = f := nI_clamp (by omega)
  have hi : vp_in (nI f) 32 := vp_in_nI (by omega) (by omega)
  rw [am_ev5 c] at H
  refine ⟨hi, nm_r (e' := 5) (by rw [cl, (xp f hf).1, c]; rfl) (br_f (by decide) (br_f (by decide) (br_f (by decide) (br_f (by decide) (br_f (by decide) (br_f (by decide) (br_f (by decide) (br_f (by decide) (br_t rfl ?_)))))))))⟩
  exact H _ _ _ (nI f) (nI ce) (nI cc) _ _ (cT, cN, cE, cK, cV, cX) (gN, gE, gC, gK, gV, gH, gT) (xr_mB ⟨t, rfl, rfl, by omega, rf⟩)
theorem xs_ev6 (ok : ps_ok p iw T) (xp : xr_p p T ka ar c1 c2 c3) (w : aw_wE p iw T f e v k F) (r : xr_E p iw f e v k F ht ft nd en co vk vl (cT, cN, cE, cK, cV, cX) (gN, gE, gC, gK, gV, gH, gT)) (H : xr_H p iw post k0 k1 k2 k3 k4 k5 k6 k7 k8 k9 k10 rm tc fc tw st fe pr nu np nn tg ka ar c1 c2 c3 ro we op (am_ev p f e v k F)) (c : pg_k p f = 6) : wpX_evaluate post (k0, k1, k2, k3, k4, k5, k6, k7, k8, k9, k10, rm, tc, fc, tw, ht, ft, 0, nd, en, co, vk, vl, st, fe, pr, nu, np, nn, tg, ka, ar, c1, c2, c3, ro, we, op, cT, cN, cE, cK, cV, cX, gN, gE, gC, gK, gV, gH, gT) := by
  obtain ⟨t, ce, cc, rfl, rfl, rfl, rfl, rfl, rfl, rfl, hce, hcc, re, rk, rf, hm⟩ := r
  have hf := w.2.2.2.2.1
  have h32 := ok.1
  have cl : (nI f).toNatClampNeg = f := nI_clamp (by omega)
  have hi : vp_in (nI f) 32 := vp_in_nI (by omega) (by omega)
  rw [am_ev6 c] at H
  refine ⟨hi, nm_r (e' := 6) (by rw [cl, (xp f hf).1, c]; rfl) (br_f (by decide) (br_f (by decide) (br_f (by decide) (br_f (by decide) (br_f (by decide) (br_f (by decide) (br_f (by decide) (br_f (by decide) (br_f (by decide) (br_t rfl ?_))))))))))⟩
  obtain ⟨c', h1, h2, h3⟩ := xq_find (K := 14) (t := t) (s := -1) (by decide) (by omega) (fun x hx => (w.2.2.2.2.2 x hx).1) hce re
  refine ⟨e.length + 1, h3 _ ?_ _ 0 (by omega) (by omega)⟩
  cases hx : ps_fd 14 (-1) e with
  | nil =>
    rw [hx] at H h2
    have h0 : c' = 0 := h2
    subst h0
    exact br_t rfl (H _ _ _ (nI f) (nI ce) (nI cc) _ _ (cT, cN, cE, cK, cV, cX) (gN, gE, gC, gK, gV, gH, gT) (xr_mB ⟨t, rfl, rfl, by omega, rf⟩))
  | cons x e' =>
    rw [hx] at H h2
    obtain ⟨r0, r1, r2, r3, r4, c'', r5, r6, r7⟩ := h2
    have hw := aw_m6 ok hf c (aw_e_ok ok.1 w.2.2.2.2.2) hx
    obtain ⟨b, hb, hx2⟩ := (w.2.2.2.2.2 x (ps_fd_hd hx).2).2.1 (ps_fd_hd hx).1
    have cl' : (nI c').toNatClampNeg = c' := nI_clamp (by omega)
    have hi' : vp_in (nI c') 128 := vp_in_nI (by omega) (by omega)
    dsimp only at r2 r6
    refine br_f (nI_ne0 r0 (by omega)) ⟨hi', hi', ?_⟩
    rw [cl', r2, r6]
    exact H _ _ _ _ (nI c'') _ _ _ (cT, cN, cE, cK, cV, cX) (gN, gE, gC, gK, gV, gH, gT) (xr_mE ⟨t, c'', cc, rfl, rfl, by rw [hx2, nI_clamp (by omega)], rfl, rfl, rfl, rfl, by omega, hcc, r7, rk, rf, by omega⟩)
theorem xs_ev7 (ok : ps_ok p iw T) (xp : xr_p p T ka ar c1 c2 c3) (w : aw_wE p iw T f e v k F) (r : xr_E p iw f e v k F ht ft nd en co vk vl (cT, cN, cE, cK, cV, cX) (gN, gE, gC, gK, gV, gH, gT)) (H : xr_H p iw post k0 k1 k2 k3 k4 k5 k6 k7 k8 k9 k10 rm tc fc tw st fe pr nu np nn tg ka ar c1 c2 c3 ro we op (am_ev p f e v k F)) (c : pg_k p f = 7) : wpX_evaluate post (k0, k1, k2, k3, k4, k5, k6, k7, k8, k9, k10, rm, tc, fc, tw, ht, ft, 0, nd, en, co, vk, vl, st, fe, pr, nu, np, nn, tg, ka, ar, c1, c2, c3, ro, we, op, cT, cN, cE, cK, cV, cX, gN, gE, gC, gK, gV, gH, gT) := by
  obtain ⟨t, ce, cc, rfl, rfl, rfl, rfl, rfl, rfl, rfl, hce, hcc, re, rk, rf, hm⟩ := r
  have hf := w.2.2.2.2.1
  have h32 := ok.1
  have hw := w.2.2.2.1
  have h0 := xr_f_1 rf
  have cl : (nI f).toNatClampNeg = f := nI_clamp (by omega)
  have hi : vp_in (nI f) 32 := vp_in_nI (by omega) (by omega)
  rw [am_ev7 c] at H
  refine ⟨hi, nm_r (e' := 7) (by rw [cl, (xp f hf).1, c]; rfl) (br_f (by decide) (br_f (by decide) (br_f (by decide) (br_f (by decide) (br_f (by decide) (br_f (by decide) (br_f (by decide) (br_f (by decide) (br_f (by decide) (br_f (by decide) (br_t rfl ?_)))))))))))⟩
  obtain ⟨c', h1, h2, h3⟩ := xq_find (K := 9) (t := t) (s := -1) (by decide) (by omega) (fun x hx => (w.2.2.2.2.2 x hx).1) hce re
  refine ⟨e.length + 1, h3 _ ?_ _ 0 (by omega) (by omega)⟩
  cases hx : ps_fd 9 (-1) e with
  | nil =>
    rw [hx] at H h2
    have h0' : c' = 0 := h2
    subst h0'
    exact br_t rfl (H _ _ _ (nI f) (nI ce) (nI cc) _ _ (cT, cN, cE, cK, cV, cX) (gN, gE, gC, gK, gV, gH, gT) (xr_mB ⟨t, rfl, rfl, by omega, h0⟩))
  | cons x e' =>
    rw [hx] at H h2
    obtain ⟨r0, r1, r2, r3, r4, r5⟩ := h2
    have hv := r4 (ps_fd_hd hx).1
    have hmk := (w.2.2.2.2.2 x (ps_fd_hd hx).2).2.2.2 (ps_fd_hd hx).1
    have cl' : (nI c').toNatClampNeg = c' := nI_clamp (by omega)
    have hi' : vp_in (nI c') 128 := vp_in_nI (by omega) (by omega)
    have hl : (am_ct x.2.2.2.2 F).length = x.2.2.2.2 := by rw [am_ct, List.length_drop]; omega
    refine br_f (nI_ne0 r0 (by omega)) ⟨hi', nm_r (e' := nI x.2.2.2.2) (by rw [cl']; exact hv) ?_⟩
    refine H _ _ _ (nI f) (nI ce) (nI cc) _ _ (cT, cN, cE, cK, cV, cX) (gN, gE, gC, gK, gV, gH, gT) (xr_mB ⟨t, rfl, ?_, by omega, xr_f_drop rf⟩)
    exact congrArg nI hl.symm
theorem xq_enter147 {t c' : Nat} {K : Int32} (h1 : t < 128) (hf : f < 32) (hc : c1 f = nI c') (H : post (k0, k1, k2, k3, k4, k5, k6, k7, k8, k9, k10, rm, tc, fc, tw, nI (t + 1), ft, md, nI c', en, nI t, vk, vl, st, fe, pr, nu, np, nn, tg, ka, ar, c1, c2, c3, ro, we, op, upd cT t K, upd cN t (nI f), upd cE t en, upd cK t vk, upd cV t vl, upd cX t co, gN, gE, gC, gK, gV, gH, gT)) : wX_enter_147 post K k0 k1 k2 k3 k4 k5 k6 k7 k8 k9 k10 rm tc fc tw (nI t) ft md (nI f) en co vk vl st fe pr nu np nn tg ka ar c1 c2 c3 ro we op cT cN cE cK cV cX gN gE gC gK gV gH gT := by
  have cl : (nI f).toNatClampNeg = f := nI_clamp (by omega)
  have hi : vp_in (nI f) 32 := vp_in_nI (by omega) (by omega)
  unfold wX_enter_147
  exact xq_newCell h1 ⟨hi, nm_r (e' := nI c') (by rw [cl]; exact hc) H⟩
theorem xs_evR (ok : ps_ok p iw T) (xp : xr_p p T ka ar c1 c2 c3) (w : aw_wE p iw T f e v k F) (r : xr_E p iw f e v k F ht ft nd en co vk vl (cT, cN, cE, cK, cV, cX) (gN, gE, gC, gK, gV, gH, gT)) (H : xr_H p iw post k0 k1 k2 k3 k4 k5 k6 k7 k8 k9 k10 rm tc fc tw st fe pr nu np nn tg ka ar c1 c2 c3 ro we op (am_ev p f e v k F)) (c : 8 ≤ pg_k p f) (n9 : pg_k p f ≠ 9) (n11 : pg_k p f ≠ 11) (n12 : pg_k p f ≠ 12) (n14 : pg_k p f ≠ 14) : wpX_evaluate post (k0, k1, k2, k3, k4, k5, k6, k7, k8, k9, k10, rm, tc, fc, tw, ht, ft, 0, nd, en, co, vk, vl, st, fe, pr, nu, np, nn, tg, ka, ar, c1, c2, c3, ro, we, op, cT, cN, cE, cK, cV, cX, gN, gE, gC, gK, gV, gH, gT) := by
  obtain ⟨t, ce, cc, rfl, rfl, rfl, rfl, rfl, rfl, rfl, hce, hcc, re, rk, rf, hm⟩ := r
  have hf := w.2.2.2.2.1
  have h32 := ok.1
  have hw := w.2.2.2.1
  have h0 := xr_f_1 rf
  have cl : (nI f).toNatClampNeg = f := nI_clamp (by omega)
  have hi : vp_in (nI f) 32 := vp_in_nI (by omega) (by omega)
  have hK := (ok.2 f hf).1
  rw [am_evR c n9 n11 n12 n14] at H
  have hd : ∀ (K : Nat), K = pg_k p f → wX_enter_147 post (nI K) k0 k1 k2 k3 k4 k5 k6 k7 k8 k9 k10 rm tc fc tw (nI t) (nI F.length) 0 (nI f) (nI ce) (nI cc) v.1 v.2 st fe pr nu np nn tg ka ar c1 c2 c3 ro we op cT cN cE cK cV cX gN gE gC gK gV gH gT := by
    intro K eK
    have hmm : t + 1 + (aw_me iw (pg_1 p f) e + (aw_mf p iw (pg_k p f, f, e, v, 0) + aw_mk p iw k)) ≤ 128 := by
      rcases ps_kinds hK with c' | c' | c' | c' | c' | c' | c' | c' | c' | c' | c' | c' | c' | c' | c' | c' | c'
      all_goals first | omega | skip
      · have := aw_m1 (e := e) ok hf (Or.inl c'); rw [aw_mf, if_neg (by dsimp only; omega), if_neg (by dsimp only; omega)]; omega
      · have := aw_m2 (e := e) ok hf (by omega) (by omega) (by omega); rw [aw_mf, if_pos (by dsimp only; omega)]; dsimp only; omega
      · have := aw_m2 (e := e) ok hf (by omega) (by omega) (by omega); rw [aw_mf, if_pos (by dsimp only; omega)]; dsimp only; omega
      · have := aw_m2 (e := e) ok hf (by omega) (by omega) (by omega); rw [aw_mf, if_pos (by dsimp only; omega)]; dsimp only; omega
      · have := aw_m3 (e := e) ok hf c'; rw [aw_mf, if_neg (by dsimp only; omega), if_pos (by dsimp only; omega)]; dsimp only; omega
    refine xq_enter147 (by omega) (by omega) ((xp f hf).2.2.1 c) ?_
    refine H _ _ _ _ _ _ _ _ (upd cT t (nI K), upd cN t (nI f), upd cE t (nI ce), upd cK t v.1, upd cV t v.2, upd cX t (nI cc)) (gN, gE, gC, gK, gV, gH, gT) (xr_mE ⟨t + 1, ce, t, rfl, rfl, rfl, rfl, rfl, rfl, rfl, by omega, by omega, xr_e_ag xr_ag_new hce re, ?_, xr_f_up (Nat.le_succ t) (xr_f_ag xr_ag_new xr_gg_rf rf), hmm⟩)
    refine ⟨h0, ?_, fun _ => ⟨pk_us, pk_us, fun _ => pk_us, ce, hce, pk_us, xr_e_ag xr_ag_new hce re⟩, fun z => absurd z n12, (fun z => by dsimp only at z; omega), cc, hcc, pk_us, xr_k_ag xr_ag_new hcc rk⟩
    show upd cT t (nI K) t = nI (pg_k p f)
    rw [← eK]; exact pk_us
  rcases ps_kinds hK with c' | c' | c' | c' | c' | c' | c' | c' | c' | c' | c' | c' | c' | c' | c' | c' | c'
  all_goals first | omega | skip
  · exact ⟨hi, nm_r (e' := 8) (by rw [cl, (xp f hf).1, c']; rfl) (br_t (by decide) (br_t (by decide) (hd 8 c'.symm)))⟩
  · exact ⟨hi, nm_r (e' := 10) (by rw [cl, (xp f hf).1, c']; rfl) (br_t (by decide) (br_f (by decide) (br_f (by decide) (br_f (by decide) (br_t rfl (hd 10 c'.symm))))))⟩
  · exact ⟨hi, nm_r (e' := 13) (by rw [cl, (xp f hf).1, c']; rfl) (br_t (by decide) (br_f (by decide) (br_f (by decide) (br_f (by decide) (br_f (by decide) (br_f (by decide) (br_f (by decide) (br_t rfl (hd 13 c'.symm)))))))))⟩
  · rcases c' with c' | c'
    · exact ⟨hi, nm_r (e' := 15) (by rw [cl, (xp f hf).1, c']; rfl) (br_t (by decide) (br_f (by decide) (br_t (by decide) (hd 15 c'.symm))))⟩
    · exact ⟨hi, nm_r (e' := 16) (by rw [cl, (xp f hf).1, c']; rfl) (br_t (by decide) (br_f (by decide) (br_t (by decide) (hd 16 c'.symm))))⟩
  · exact ⟨hi, nm_r (e' := 17) (by rw [cl, (xp f hf).1, c']; rfl) (br_t (by decide) (br_f (by decide) (br_t (by decide) (hd 17 c'.symm))))⟩
theorem xs_ev9 (ok : ps_ok p iw T) (xp : xr_p p T ka ar c1 c2 c3) (w : aw_wE p iw T f e v k F) (r : xr_E p iw f e v k F ht ft nd en co vk vl (cT, cN, cE, cK, cV, cX) (gN, gE, gC, gK, gV, gH, gT)) (H : xr_H p iw post k0 k1 k2 k3 k4 k5 k6 k7 k8 k9 k10 rm tc fc tw st fe pr nu np nn tg ka ar c1 c2 c3 ro we op (am_ev p f e v k F)) (c : pg_k p f = 9) : wpX_evaluate post (k0, k1, k2, k3, k4, k5, k6, k7, k8, k9, k10, rm, tc, fc, tw, ht, ft, 0, nd, en, co, vk, vl, st, fe, pr, nu, np, nn, tg, ka, ar, c1, c2, c3, ro, we, op, cT, cN, cE, cK, cV, cX, gN, gE, gC, gK, gV, gH, gT) := by
  obtain ⟨t, ce, cc, rfl, rfl, rfl, rfl, rfl, rfl, rfl, hce, hcc, re, rk, rf, hm⟩ := r
  have hf := w.2.2.2.2.1
  have h32 := ok.1
  have hw := w.2.2.2.1
  have h0 := xr_f_1 rf
  have cl : (nI f).toNatClampNeg = f := nI_clamp (by omega)
  have hi : vp_in (nI f) 32 := vp_in_nI (by omega) (by omega)
  rw [am_ev9 c] at H
  have hmm := aw_m1 (e := e) ok hf (Or.inr c)
  have hcl' : (nI t).toNatClampNeg = t := nI_clamp (by omega)
  have hc1 := (xp f hf).2.2.1 (by omega)
  refine ⟨hi, nm_r (e' := 9) (by rw [cl, (xp f hf).1, c]; rfl) (br_t (by decide) (br_f (by decide) (br_f (by decide) (br_t rfl ?_))))⟩
  refine xq_newCell (t := t) (by omega) ⟨vp_in_nI (by omega) (by omega), nm_r (congrArg (fun z => upd (upd cV t v.2) z (nI F.length)) hcl') ⟨hi, nm_r (e' := nI (pg_1 p f)) (by rw [cl]; exact hc1) ?_⟩⟩
  refine H _ _ _ _ _ _ _ _ (upd cT t 9, upd cN t (nI f), upd cE t (nI ce), upd cK t v.1, upd (upd cV t v.2) t (nI F.length), upd cX t (nI ce)) (gN, gE, gC, gK, gV, gH, gT) (xr_mE ⟨t + 1, t, cc, rfl, rfl, rfl, rfl, rfl, rfl, rfl, by omega, by omega, ?_, xr_k_ag xr_ag_new2 hcc rk, xr_f_up (Nat.le_succ t) (xr_f_ag xr_ag_new2 xr_gg_rf rf), ?_⟩)
  · exact xr_e_i xr_ag_new2 h0 pk_us pk_us (fun z => by cases z) (fun _ => pk_us) hce pk_us re
  · show t + 1 + (aw_me iw (pg_1 p f) ((9, nI f, 0, 0, F.length) :: e) + aw_mk p iw k) ≤ 128
    rw [aw_mc (by intro z; cases z)]; omega
theorem xs_ev14 (ok : ps_ok p iw T) (xp : xr_p p T ka ar c1 c2 c3) (w : aw_wE p iw T f e v k F) (r : xr_E p iw f e v k F ht ft nd en co vk vl (cT, cN, cE, cK, cV, cX) (gN, gE, gC, gK, gV, gH, gT)) (H : xr_H p iw post k0 k1 k2 k3 k4 k5 k6 k7 k8 k9 k10 rm tc fc tw st fe pr nu np nn tg ka ar c1 c2 c3 ro we op (am_ev p f e v k F)) (c : pg_k p f = 14) : wpX_evaluate post (k0, k1, k2, k3, k4, k5, k6, k7, k8, k9, k10, rm, tc, fc, tw, ht, ft, 0, nd, en, co, vk, vl, st, fe, pr, nu, np, nn, tg, ka, ar, c1, c2, c3, ro, we, op, cT, cN, cE, cK, cV, cX, gN, gE, gC, gK, gV, gH, gT) := by
  obtain ⟨t, ce, cc, rfl, rfl, rfl, rfl, rfl, rfl, rfl, hce, hcc, re, rk, rf, hm⟩ := r
  have hf := w.2.2.2.2.1
  have h32 := ok.1
  have hw := w.2.2.2.1
  have h0 := xr_f_1 rf
  have cl : (nI f).toNatClampNeg = f := nI_clamp (by omega)
  have hi : vp_in (nI f) 32 := vp_in_nI (by omega) (by omega)
  rw [am_ev14 c] at H
  have hmm := aw_m14 (e := e) ok hf c
  have hc1 := (xp f hf).2.2.1 (by omega)
  have hc2 := (xp f hf).2.2.2.1 (by omega)
  refine ⟨hi, nm_r (e' := 14) (by rw [cl, (xp f hf).1, c]; rfl) (br_t (by decide) (br_f (by decide) (br_f (by decide) (br_f (by decide) (br_f (by decide) (br_f (by decide) (br_f (by decide) (br_f (by decide) (br_t rfl ⟨hi, ?_⟩)))))))))⟩
  rw [show c2 (nI f).toNatClampNeg = nI (pg_2 p f) by rw [cl]; exact hc2]
  refine xq_newCell (t := t) (by omega) ⟨hi, nm_r (e' := nI (pg_1 p f)) (by rw [cl]; exact hc1) ?_⟩
  refine H _ _ _ _ _ _ _ _ (upd cT t 14, upd cN t (nI (pg_2 p f)), upd cE t (nI ce), upd cK t v.1, upd cV t v.2, upd cX t (nI ce)) (gN, gE, gC, gK, gV, gH, gT) (xr_mE ⟨t + 1, t, cc, rfl, rfl, rfl, rfl, rfl, rfl, rfl, by omega, by omega, ?_, xr_k_ag xr_ag_new hcc rk, xr_f_up (Nat.le_succ t) (xr_f_ag xr_ag_new xr_gg_rf rf), ?_⟩)
  · exact xr_e_i xr_ag_new h0 pk_us pk_us (fun z => by cases z) (fun z => by cases z) hce pk_us re
  · show t + 1 + (aw_me iw (pg_1 p f) ((14, nI (pg_2 p f), 0, 0, 0) :: e) + aw_mk p iw k) ≤ 128
    omega
theorem xs_ev11 (ok : ps_ok p iw T) (xp : xr_p p T ka ar c1 c2 c3) (w : aw_wE p iw T f e v k F) (r : xr_E p iw f e v k F ht ft nd en co vk vl (cT, cN, cE, cK, cV, cX) (gN, gE, gC, gK, gV, gH, gT)) (H : xr_H p iw post k0 k1 k2 k3 k4 k5 k6 k7 k8 k9 k10 rm tc fc tw st fe pr nu np nn tg ka ar c1 c2 c3 ro we op (am_ev p f e v k F)) (c : pg_k p f = 11) : wpX_evaluate post (k0, k1, k2, k3, k4, k5, k6, k7, k8, k9, k10, rm, tc, fc, tw, ht, ft, 0, nd, en, co, vk, vl, st, fe, pr, nu, np, nn, tg, ka, ar, c1, c2, c3, ro, we, op, cT, cN, cE, cK, cV, cX, gN, gE, gC, gK, gV, gH, gT) := by
  obtain ⟨t, ce, cc, rfl, rfl, rfl, rfl, rfl, rfl, rfl, hce, hcc, re, rk, rf, hm⟩ := r
  have hf := w.2.2.2.2.1
  have h32 := ok.1
  have hw := w.2.2.2.1
  have h0 := xr_f_1 rf
  have cl : (nI f).toNatClampNeg = f := nI_clamp (by omega)
  have hi : vp_in (nI f) 32 := vp_in_nI (by omega) (by omega)
  rw [am_ev11 c] at H
  have hmm := aw_m2 (e := e) ok hf (by omega) (by omega) (by omega)
  have hc1 := (xp f hf).2.2.1 (by omega)
  have h2 := aw_me1 (e := e) ok (ps_c2 ok hf (by omega))
  refine ⟨hi, nm_r (e' := 11) (by rw [cl, (xp f hf).1, c]; rfl) (br_t (by decide) (br_f (by decide) (br_f (by decide) (br_f (by decide) (br_f (by decide) (br_t rfl ?_))))))⟩
  refine xq_pushFork (n := F.length) (by omega) ⟨hi, nm_r (e' := nI (pg_1 p f)) (by rw [cl]; exact hc1) ?_⟩
  refine H _ _ _ _ _ _ _ _ (cT, cN, cE, cK, cV, cX) (upd gN F.length (nI f), upd gE F.length (nI ce), upd gC F.length (nI cc), upd gK F.length v.1, upd gV F.length v.2, upd gH F.length (nI t), upd gT F.length 0) (xr_mE ⟨t, ce, cc, rfl, rfl, rfl, rfl, rfl, rfl, rfl, hce, hcc, re, rk, ⟨t, Nat.le_refl _, pk_us, ⟨ce, hce, pk_us, re⟩, ⟨cc, hcc, pk_us, rk⟩, pk_us, pk_us, pk_us, pk_us, ?_, xr_f_ag xr_ag_rf xr_gg_new rf⟩, ?_⟩)
  · rw [aw_mfk, if_neg (by rw [c]; decide)]; dsimp only; omega
  · show t + (aw_me iw (pg_1 p f) e + aw_mk p iw k) ≤ 128; omega
theorem xs_ev12 (ok : ps_ok p iw T) (xp : xr_p p T ka ar c1 c2 c3) (w : aw_wE p iw T f e v k F) (r : xr_E p iw f e v k F ht ft nd en co vk vl (cT, cN, cE, cK, cV, cX) (gN, gE, gC, gK, gV, gH, gT)) (H : xr_H p iw post k0 k1 k2 k3 k4 k5 k6 k7 k8 k9 k10 rm tc fc tw st fe pr nu np nn tg ka ar c1 c2 c3 ro we op (am_ev p f e v k F)) (c : pg_k p f = 12) : wpX_evaluate post (k0, k1, k2, k3, k4, k5, k6, k7, k8, k9, k10, rm, tc, fc, tw, ht, ft, 0, nd, en, co, vk, vl, st, fe, pr, nu, np, nn, tg, ka, ar, c1, c2, c3, ro, we, op, cT, cN, cE, cK, cV, cX, gN, gE, gC, gK, gV, gH, gT) := by
  obtain ⟨t, ce, cc, rfl, rfl, rfl, rfl, rfl, rfl, rfl, hce, hcc, re, rk, rf, hm⟩ := r
  have hf := w.2.2.2.2.1
  have h32 := ok.1
  have hw := w.2.2.2.1
  have h0 := xr_f_1 rf
  have cl : (nI f).toNatClampNeg = f := nI_clamp (by omega)
  have hi : vp_in (nI f) 32 := vp_in_nI (by omega) (by omega)
  rw [am_ev12 c] at H
  have hmm := aw_m2 (e := e) ok hf (by omega) (by omega) (by omega)
  have hc1 := (xp f hf).2.2.1 (by omega)
  have h2 := aw_me1 (e := e) ok (ps_c2 ok hf (by omega))
  have hcl' : (nI t).toNatClampNeg = t := nI_clamp (by omega)
  refine ⟨hi, nm_r (e' := 12) (by rw [cl, (xp f hf).1, c]; rfl) (br_t (by decide) (br_f (by decide) (br_f (by decide) (br_f (by decide) (br_f (by decide) (br_f (by decide) (br_t rfl ?_)))))))⟩
  refine xq_pushFork (n := F.length) (by omega) (xq_newCell (t := t) (by omega) ⟨vp_in_nI (by omega) (by omega), nm_r (e' := upd (upd cV t v.2) t (nI F.length)) (by rw [hcl', nI_pred]) ⟨hi, nm_r (e' := nI (pg_1 p f)) (by rw [cl]; exact hc1) ?_⟩⟩)
  refine H _ _ _ _ _ _ _ _ (upd cT t 12, upd cN t (nI f), upd cE t (nI ce), upd cK t v.1, upd (upd cV t v.2) t (nI F.length), upd cX t (nI cc)) (upd gN F.length (nI f), upd gE F.length (nI ce), upd gC F.length (nI cc), upd gK F.length v.1, upd gV F.length v.2, upd gH F.length (nI t), upd gT F.length 0) (xr_mE ⟨t + 1, ce, t, rfl, rfl, rfl, rfl, rfl, rfl, rfl, by omega, by omega, xr_e_ag xr_ag_new2 hce re, ?_, ⟨t, Nat.le_succ t, pk_us, ⟨ce, hce, pk_us, xr_e_ag xr_ag_new2 hce re⟩, ⟨cc, hcc, pk_us, xr_k_ag xr_ag_new2 hcc rk⟩, pk_us, pk_us, pk_us, pk_us, ?_, xr_f_ag xr_ag_new2 xr_gg_new rf⟩, ?_⟩)
  · exact ⟨h0, pk_us, fun _ => ⟨pk_us, pk_us, fun z => absurd rfl z, ce, hce, pk_us, xr_e_ag xr_ag_new2 hce re⟩, fun _ => pk_us, (fun z => by dsimp only at z; omega), cc, hcc, pk_us, xr_k_ag xr_ag_new2 hcc rk⟩
  · rw [aw_mfk, if_neg (by rw [c]; decide)]; dsimp only; omega
  · show t + 1 + (aw_me iw (pg_1 p f) e + (1 + aw_mk p iw k)) ≤ 128; omega
theorem xs_ev (ok : ps_ok p iw T) (xp : xr_p p T ka ar c1 c2 c3) (w : aw_wE p iw T f e v k F) (r : xr_E p iw f e v k F ht ft nd en co vk vl (cT, cN, cE, cK, cV, cX) (gN, gE, gC, gK, gV, gH, gT)) (H : xr_H p iw post k0 k1 k2 k3 k4 k5 k6 k7 k8 k9 k10 rm tc fc tw st fe pr nu np nn tg ka ar c1 c2 c3 ro we op (am_ev p f e v k F)) : wpX_evaluate post (k0, k1, k2, k3, k4, k5, k6, k7, k8, k9, k10, rm, tc, fc, tw, ht, ft, 0, nd, en, co, vk, vl, st, fe, pr, nu, np, nn, tg, ka, ar, c1, c2, c3, ro, we, op, cT, cN, cE, cK, cV, cX, gN, gE, gC, gK, gV, gH, gT) := by
  rcases ps_kinds (ok.2 f w.2.2.2.2.1).1 with c | c | c | c | c | c | c | c | c | c | c | c | c | c | c | c | c
  · exact xs_ev0 ok xp w r H c
  · exact xs_ev1 ok xp w r H c
  · exact xs_ev2 ok xp w r H c
  · exact xs_ev3 ok xp w r H c
  · exact xs_ev4 ok xp w r H c
  · exact xs_ev5 ok xp w r H c
  · exact xs_ev6 ok xp w r H c
  · exact xs_ev7 ok xp w r H c
  · exact xs_evR ok xp w r H (by omega) (by omega) (by omega) (by omega) (by omega)
  · exact xs_ev9 ok xp w r H c
  · exact xs_evR ok xp w r H (by omega) (by omega) (by omega) (by omega) (by omega)
  · exact xs_ev11 ok xp w r H c
  · exact xs_ev12 ok xp w r H c
  · exact xs_evR ok xp w r H (by omega) (by omega) (by omega) (by omega) (by omega)
  · exact xs_ev14 ok xp w r H c
  · exact xs_evR ok xp w r H (by omega) (by omega) (by omega) (by omega) (by omega)
  · exact xs_evR ok xp w r H (by omega) (by omega) (by omega) (by omega) (by omega)
end
end
section
/-! ===== passOn and backtrack are the machine's am_gv and am_bk ===== -/
section
variable {p : PG} {iw : Nat → Nat → Nat} {T tg' nd' ix : Nat} {e : PE} {u v : PV} {k : List AF} {F : List AK} {post : SX → Prop} {k0 k1 k2 k3 k4 k5 k6 k7 k8 k9 k10 rm tc fc tw ht ft md nd en co vk vl st fe : Int32} {pr nu np nn tg ka ar c1 c2 c3 ro we op cT cN cE cK cV cX gN gE gC gK gV gH gT : Nat → Int32}
theorem xq_restore {cc : Nat} {a b : Int32} (h1 : cc < 128) (ha : cK cc = a) (hb : cV cc = b) (H : post (k0, k1, k2, k3, k4, k5, k6, k7, k8, k9, k10, rm, tc, fc, tw, ht, ft, md, nd, en, co, a, b, st, fe, pr, nu, np, nn, tg, ka, ar, c1, c2, c3, ro, we, op, cT, cN, cE, cK, cV, cX, gN, gE, gC, gK, gV, gH, gT)) : wpX_restore post (k0, k1, k2, k3, k4, k5, k6, k7, k8, k9, k10, rm, tc, fc, tw, ht, ft, md, nd, en, co, vk, vl, st, fe, pr, nu, np, nn, tg, ka, ar, c1, c2, c3, ro, we, op, cT, cN, cE, cK, cV, cX, gN, gE, gC, gK, gV, gH, gT) (nI cc) := by
  have cl : (nI cc).toNatClampNeg = cc := nI_clamp (by omega)
  have hi : vp_in (nI cc) 128 := vp_in_nI h1 (by omega)
  exact ⟨hi, nm_r (by rw [cl]; exact ha) ⟨hi, nm_r (by rw [cl]; exact hb) H⟩⟩
theorem xs_pa8 {cc t : Nat} {n : Int32} (hcc : cc < t) (hm : t + aw_mk p iw k ≤ 128) (r : xr_k (cT, cN, cE, cK, cV, cX) ((8, nd', e, u, ix) :: k) cc) (rf : xr_f (cT, cN, cE, cK, cV, cX) (gN, gE, gC, gK, gV, gH, gT) (aw_mfk p iw) F t) (H : xr_H p iw post k0 k1 k2 k3 k4 k5 k6 k7 k8 k9 k10 rm tc fc tw st fe pr nu np nn tg ka ar c1 c2 c3 ro we op (am_one k F (ps_key n u))) : wX_passOn_38 post (nI cc) n k0 k1 k2 k3 k4 k5 k6 k7 k8 k9 k10 rm tc fc tw (nI t) (nI F.length) md nd en (nI cc) vk vl st fe pr nu np nn tg ka ar c1 c2 c3 ro we op cT cN cE cK cV cX gN gE gC gK gV gH gT := by
  obtain ⟨r0, r1, r2, r3, r4, c', hc', r5, r6⟩ := r
  obtain ⟨s1, s2, s3, ce, hce, s4, s5⟩ := r2 (by show (8 : Nat) < 18; decide)
  have s3 := s3 (by show (8 : Nat) ≠ 12; decide)
  dsimp only at r1 r5 s1 s2 s3 s4
  have cl : (nI cc).toNatClampNeg = cc := nI_clamp (by omega)
  have hi : vp_in (nI cc) 128 := vp_in_nI (by omega) (by omega)
  refine ⟨hi, nm_e ⟨hi, nm_r (e' := nI c') (by rw [cl]; exact r5) ⟨hi, nm_r (e' := 8) (by rw [cl]; exact r1) ?_⟩⟩⟩
  refine br_f (by decide) (br_f (by decide) (br_t rfl (xq_restore (by omega) s2 s3 (xq_giveKey (fun hk => ?_) (fun o hk => ?_)))))
  · have hk' : ps_key n u = [] := hk
    rw [hk'] at H
    exact H _ _ _ nd en (nI c') _ _ (cT, cN, cE, cK, cV, cX) (gN, gE, gC, gK, gV, gH, gT) (xr_mB ⟨t, rfl, rfl, by omega, rf⟩)
  · have hk' : ps_key n u = [o] := hk
    rw [hk'] at H
    exact H _ _ _ nd en _ _ _ (cT, cN, cE, cK, cV, cX) (gN, gE, gC, gK, gV, gH, gT) (xr_mG ⟨t, c', rfl, rfl, rfl, rfl, rfl, by omega, r6, rf, hm⟩)
theorem xs_pa10 {cc t b : Nat} {n : Int32} (h32 : nd' < 32) (hc : c2 nd' = nI b) (hcc : cc < t) (hm : t + (aw_me iw b e + aw_mk p iw k) ≤ 128) (r : xr_k (cT, cN, cE, cK, cV, cX) ((10, nd', e, u, ix) :: k) cc) (rf : xr_f (cT, cN, cE, cK, cV, cX) (gN, gE, gC, gK, gV, gH, gT) (aw_mfk p iw) F t) (H : xr_H p iw post k0 k1 k2 k3 k4 k5 k6 k7 k8 k9 k10 rm tc fc tw st fe pr nu np nn tg ka ar c1 c2 c3 ro we op (am_E b e (vk, vl) k F)) : wX_passOn_38 post (nI cc) n k0 k1 k2 k3 k4 k5 k6 k7 k8 k9 k10 rm tc fc tw (nI t) (nI F.length) md nd en (nI cc) vk vl st fe pr nu np nn tg ka ar c1 c2 c3 ro we op cT cN cE cK cV cX gN gE gC gK gV gH gT := by
  obtain ⟨r0, r1, r2, r3, r4, c', hc', r5, r6⟩ := r
  obtain ⟨s1, s2, s3, ce, hce, s4, s5⟩ := r2 (by show (10 : Nat) < 18; decide)
  dsimp only at r1 r5 s1 s2 s4
  have cl : (nI cc).toNatClampNeg = cc := nI_clamp (by omega)
  have hi : vp_in (nI cc) 128 := vp_in_nI (by omega) (by omega)
  have cl2 : (nI nd').toNatClampNeg = nd' := nI_clamp (by omega)
  have hi2 : vp_in (nI nd') 32 := vp_in_nI (by omega) (by omega)
  refine ⟨hi, nm_r (e' := nI nd') (by rw [cl]; exact s1) ⟨hi, nm_r (e' := nI c') (by rw [cl]; exact r5) ⟨hi, nm_r (e' := 10) (by rw [cl]; exact r1) ?_⟩⟩⟩
  refine br_f (by decide) (br_f (by decide) (br_f (by decide) (br_f (by decide) (br_t rfl ⟨hi2, hi, ?_⟩))))
  rw [cl, cl2, hc, s4]
  exact H _ _ _ _ _ _ _ _ (cT, cN, cE, cK, cV, cX) (gN, gE, gC, gK, gV, gH, gT) (xr_mE ⟨t, ce, c', rfl, rfl, rfl, rfl, rfl, rfl, rfl, by omega, by omega, s5, r6, rf, hm⟩)
theorem xs_pa12 {cc t : Nat} {n : Int32} (hix : ix < 64) (hcc : cc < t) (hm : t + aw_mk p iw k ≤ 128) (r : xr_k (cT, cN, cE, cK, cV, cX) ((12, nd', e, u, ix) :: k) cc) (rf : xr_f (cT, cN, cE, cK, cV, cX) (gN, gE, gC, gK, gV, gH, gT) (aw_mfk p iw) F t) (H : xr_H p iw post k0 k1 k2 k3 k4 k5 k6 k7 k8 k9 k10 rm tc fc tw st fe pr nu np nn tg ka ar c1 c2 c3 ro we op (if n = 0 then am_B F else am_G (vk, vl) k (am_sf ix F))) : wX_passOn_38 post (nI cc) n k0 k1 k2 k3 k4 k5 k6 k7 k8 k9 k10 rm tc fc tw (nI t) (nI F.length) 1 nd en (nI cc) vk vl st fe pr nu np nn tg ka ar c1 c2 c3 ro we op cT cN cE cK cV cX gN gE gC gK gV gH gT := by
  obtain ⟨r0, r1, r2, r3, r4, c', hc', r5, r6⟩ := r
  obtain ⟨s1, s2, s3, ce, hce, s4, s5⟩ := r2 (by show (12 : Nat) < 18; decide)
  have r3 := r3 rfl
  dsimp only at r1 r3 r5 s1 s2 s4
  have cl : (nI cc).toNatClampNeg = cc := nI_clamp (by omega)
  have cl3 : (nI ix).toNatClampNeg = ix := nI_clamp (by omega)
  have hi : vp_in (nI cc) 128 := vp_in_nI (by omega) (by omega)
  refine ⟨hi, nm_e ⟨hi, nm_r (e' := nI c') (by rw [cl]; exact r5) ⟨hi, nm_r (e' := 12) (by rw [cl]; exact r1) ?_⟩⟩⟩
  refine br_f (by decide) (br_f (by decide) (br_f (by decide) (br_f (by decide) (br_f (by decide) (br_f (by decide) (br_t rfl ?_))))))
  by_cases hz : n = 0
  · rw [if_pos hz] at H
    exact br_t hz (H _ _ _ nd en (nI c') _ _ (cT, cN, cE, cK, cV, cX) (gN, gE, gC, gK, gV, gH, gT) (xr_mB ⟨t, rfl, rfl, by omega, rf⟩))
  · rw [if_neg hz] at H
    refine br_f hz ⟨hi, by rw [cl, r3]; exact vp_in_nI hix (by omega), nm_r (e' := upd gT ix 1) (by rw [cl, r3, cl3]) ?_⟩
    refine H _ _ _ nd en _ _ _ (cT, cN, cE, cK, cV, cX) (gN, gE, gC, gK, gV, gH, upd gT ix 1) (xr_mG ⟨t, c', rfl, ?_, rfl, rfl, rfl, by omega, r6, xr_f_sf (fun x => ?_) rf, hm⟩)
    · exact congrArg nI am_sf_len.symm
    · rfl
theorem xs_pa13 {cc t b : Nat} {n : Int32} (h32 : nd' < 32) (hc : c2 nd' = nI b) (ha : ar nd' = pg_a p nd') (hcc : cc < t) (hm : t + 1 + (aw_me iw b e + aw_mk p iw k) ≤ 128) (r : xr_k (cT, cN, cE, cK, cV, cX) ((13, nd', e, u, ix) :: k) cc) (rf : xr_f (cT, cN, cE, cK, cV, cX) (gN, gE, gC, gK, gV, gH, gT) (aw_mfk p iw) F t) (H : xr_H p iw post k0 k1 k2 k3 k4 k5 k6 k7 k8 k9 k10 rm tc fc tw st fe pr nu np nn tg ka ar c1 c2 c3 ro we op (am_E b ((13, pg_a p nd', (ps_bv (vk, vl)).1, (ps_bv (vk, vl)).2, 0) :: e) u k F)) : wX_passOn_38 post (nI cc) n k0 k1 k2 k3 k4 k5 k6 k7 k8 k9 k10 rm tc fc tw (nI t) (nI F.length) md nd en (nI cc) vk vl st fe pr nu np nn tg ka ar c1 c2 c3 ro we op cT cN cE cK cV cX gN gE gC gK gV gH gT := by
  obtain ⟨r0, r1, r2, r3, r4, c', hc', r5, r6⟩ := r
  obtain ⟨s1, s2, s3, ce, hce, s4, s5⟩ := r2 (by show (13 : Nat) < 18; decide)
  have s3 := s3 (by show (13 : Nat) ≠ 12; decide)
  dsimp only at r1 r5 s1 s2 s3 s4
  have cl : (nI cc).toNatClampNeg = cc := nI_clamp (by omega)
  have clt : (nI t).toNatClampNeg = t := nI_clamp (by omega)
  have hi : vp_in (nI cc) 128 := vp_in_nI (by omega) (by omega)
  have hit : vp_in (nI t) 128 := vp_in_nI (by omega) (by omega)
  have cl2 : (nI nd').toNatClampNeg = nd' := nI_clamp (by omega)
  have hi2 : vp_in (nI nd') 32 := vp_in_nI (by omega) (by omega)
  have hmm : t + 1 + (aw_me iw b ((13, pg_a p nd', (ps_bv (vk, vl)).1, (ps_bv (vk, vl)).2, 0) :: e) + aw_mk p iw k) ≤ 128 := by rw [aw_mc (by intro z; cases z)]; exact hm
  refine ⟨hi, nm_r (e' := nI nd') (by rw [cl]; exact s1) ⟨hi, nm_r (e' := nI c') (by rw [cl]; exact r5) ⟨hi, nm_r (e' := 13) (by rw [cl]; exact r1) ?_⟩⟩⟩
  refine br_f (by decide) (br_f (by decide) (br_f (by decide) (br_f (by decide) (br_f (by decide) (br_f (by decide) (br_f (by decide) (br_t rfl ⟨hi, nm_r (e' := nI nd') (by rw [cl]; exact s1) ⟨hi2, hi, ?_⟩⟩)))))))
  rw [cl, cl2, ha, s4]
  refine xq_newCell (t := t) (by omega) ⟨hit, ?_⟩
  by_cases h2 : vk = 2
  · refine br_t (by rw [clt]; exact pk_us.trans h2) ⟨hit, nm_r (e' := upd (upd cK t vk) t 1) (by rw [clt]) ?_⟩
    refine xq_restore (cc := cc) (a := u.1) (b := u.2) (by omega) ((pb_u hcc).trans ((pb_u hcc).trans s2)) ((pb_u hcc).trans s3) ⟨hi2, ?_⟩
    rw [cl2, hc]
    refine H _ _ _ _ (nI t) _ _ _ (upd cT t 13, upd cN t (pg_a p nd'), upd cE t en, upd (upd cK t vk) t 1, upd cV t vl, upd cX t (nI ce)) (gN, gE, gC, gK, gV, gH, gT) (xr_mE ⟨t + 1, t, c', rfl, rfl, rfl, rfl, rfl, rfl, rfl, by omega, by omega, ?_, xr_k_ag xr_ag_new3 (by omega) r6, xr_f_up (Nat.le_succ t) (xr_f_ag xr_ag_new3 xr_gg_rf rf), hmm⟩)
    refine xr_e_i xr_ag_new3 (xr_f_1 rf) pk_us pk_us (fun _ => ⟨?_, pk_us⟩) (fun z => by cases z) (by omega) pk_us s5
    show upd (upd cK t vk) t 1 t = if vk = 2 then 1 else vk
    rw [if_pos h2]; exact pk_us
  · refine br_f (by rw [clt]; exact fun z => h2 (pk_us.symm.trans z)) ?_
    refine xq_restore (cc := cc) (a := u.1) (b := u.2) (by omega) ((pb_u hcc).trans s2) ((pb_u hcc).trans s3) ⟨hi2, ?_⟩
    rw [cl2, hc]
    refine H _ _ _ _ (nI t) _ _ _ (upd cT t 13, upd cN t (pg_a p nd'), upd cE t en, upd cK t vk, upd cV t vl, upd cX t (nI ce)) (gN, gE, gC, gK, gV, gH, gT) (xr_mE ⟨t + 1, t, c', rfl, rfl, rfl, rfl, rfl, rfl, rfl, by omega, by omega, ?_, xr_k_ag xr_ag_new (by omega) r6, xr_f_up (Nat.le_succ t) (xr_f_ag xr_ag_new xr_gg_rf rf), hmm⟩)
    refine xr_e_i xr_ag_new (xr_f_1 rf) pk_us pk_us (fun _ => ⟨?_, pk_us⟩) (fun z => by cases z) (by omega) pk_us s5
    show upd cK t vk t = if vk = 2 then 1 else vk
    rw [if_neg h2]; exact pk_us
theorem xq_await {cc c' ce t b K : Nat} {n : Int32} (h32 : nd' < 32) (hc : c2 nd' = nI b) (hcc : cc < t) (hm : t + 1 + (aw_me iw b e + (1 + aw_mk p iw k)) ≤ 128) (hK : K = 18 ∨ K = 19) (s1 : cN cc = nI nd') (s2 : cK cc = u.1) (s3 : cV cc = u.2) (hce : ce < cc) (s4 : cE cc = nI ce) (s5 : xr_e (cT, cN, cE, cK, cV, cX) e ce) (hc' : c' < cc) (r6 : xr_k (cT, cN, cE, cK, cV, cX) k c') (rf : xr_f (cT, cN, cE, cK, cV, cX) (gN, gE, gC, gK, gV, gH, gT) (aw_mfk p iw) F t) (H : xr_H p iw post k0 k1 k2 k3 k4 k5 k6 k7 k8 k9 k10 rm tc fc tw st fe pr nu np nn tg ka ar c1 c2 c3 ro we op (am_E b e u ((K, 0, [], (0, n), 0) :: k) F)) : wpX_awaitRight post (k0, k1, k2, k3, k4, k5, k6, k7, k8, k9, k10, rm, tc, fc, tw, nI t, nI F.length, md, nd, en, nI c', vk, vl, st, fe, pr, nu, np, nn, tg, ka, ar, c1, c2, c3, ro, we, op, cT, cN, cE, cK, cV, cX, gN, gE, gC, gK, gV, gH, gT) (nI cc) n (nI K) := by
  have cl : (nI cc).toNatClampNeg = cc := nI_clamp (by omega)
  have clt : (nI t).toNatClampNeg = t := nI_clamp (by omega)
  have hi : vp_in (nI cc) 128 := vp_in_nI (by omega) (by omega)
  have hit : vp_in (nI t) 128 := vp_in_nI (by omega) (by omega)
  have cl2 : (nI nd').toNatClampNeg = nd' := nI_clamp (by omega)
  have hi2 : vp_in (nI nd') 32 := vp_in_nI (by omega) (by omega)
  refine ⟨hi, nm_r (e' := nI nd') (by rw [cl]; exact s1) (xq_newCell (t := t) (by omega) ⟨hit, nm_r (e' := upd (upd cV t vl) t n) (by rw [clt]) ?_⟩)⟩
  refine xq_restore (cc := cc) (a := u.1) (b := u.2) (by omega) ((pb_u hcc).trans s2) ((pb_u hcc).trans ((pb_u hcc).trans s3)) ⟨hi2, hi, ?_⟩
  rw [cl, cl2, hc, show upd cE t en cc = nI ce from (pb_u hcc).trans s4]
  refine H _ _ _ _ _ _ _ _ (upd cT t (nI K), upd cN t (nI nd'), upd cE t en, upd cK t vk, upd (upd cV t vl) t n, upd cX t (nI c')) (gN, gE, gC, gK, gV, gH, gT) (xr_mE ⟨t + 1, ce, t, rfl, rfl, rfl, rfl, rfl, rfl, rfl, by omega, by omega, xr_e_ag xr_ag_new2 (by omega) s5, ?_, xr_f_up (Nat.le_succ t) (xr_f_ag xr_ag_new2 xr_gg_rf rf), ?_⟩)
  · exact ⟨xr_f_1 rf, pk_us, (fun z => by dsimp only at z; omega), (fun z => by dsimp only at z; omega), fun _ => pk_us, c', by omega, pk_us, xr_k_ag xr_ag_new2 (by omega) r6⟩
  · show t + 1 + (aw_me iw b e + (aw_mf p iw (K, 0, [], (0, n), 0) + aw_mk p iw k)) ≤ 128
    rw [aw_mf, if_neg (by dsimp only; omega), if_neg (by dsimp only; omega)]; exact hm
theorem xs_pa15 {cc t b K : Nat} {n : Int32} (hK : K = 15 ∨ K = 16) (h32 : nd' < 32) (hc : c2 nd' = nI b) (hcc : cc < t) (hm : t + 1 + (aw_me iw b e + (1 + aw_mk p iw k)) ≤ 128) (r : xr_k (cT, cN, cE, cK, cV, cX) ((K, nd', e, u, ix) :: k) cc) (rf : xr_f (cT, cN, cE, cK, cV, cX) (gN, gE, gC, gK, gV, gH, gT) (aw_mfk p iw) F t) (H : xr_H p iw post k0 k1 k2 k3 k4 k5 k6 k7 k8 k9 k10 rm tc fc tw st fe pr nu np nn tg ka ar c1 c2 c3 ro we op (am_E b e u ((K + 3, 0, [], (0, n), 0) :: k) F)) : wX_passOn_38 post (nI cc) n k0 k1 k2 k3 k4 k5 k6 k7 k8 k9 k10 rm tc fc tw (nI t) (nI F.length) md nd en (nI cc) vk vl st fe pr nu np nn tg ka ar c1 c2 c3 ro we op cT cN cE cK cV cX gN gE gC gK gV gH gT := by
  have hK1 : K < 18 := by omega
  have hK2 : K ≠ 12 := by omega
  obtain ⟨r0, r1, r2, r3, r4, c', hc', r5, r6⟩ := r
  obtain ⟨s1, s2, s3, ce, hce, s4, s5⟩ := r2 hK1
  have s9 := s3 hK2
  dsimp only at r1 r5 s1 s2 s9 s4
  have cl : (nI cc).toNatClampNeg = cc := nI_clamp (by omega)
  have hi : vp_in (nI cc) 128 := vp_in_nI (by omega) (by omega)
  rcases hK with rfl | rfl
  · refine ⟨hi, nm_e ⟨hi, nm_r (e' := nI c') (by rw [cl]; exact r5) ⟨hi, nm_r (e' := 15) (by rw [cl]; exact r1) ?_⟩⟩⟩
    refine br_f (by decide) (br_f (by decide) (br_f (by decide) (br_f (by decide) (br_f (by decide) (br_f (by decide) (br_f (by decide) (br_f (by decide) (br_f (by decide) (br_t rfl ?_)))))))))
    exact xq_await (K := 18) h32 hc hcc hm (Or.inl rfl) s1 s2 s9 hce s4 s5 hc' r6 rf H
  · refine ⟨hi, nm_e ⟨hi, nm_r (e' := nI c') (by rw [cl]; exact r5) ⟨hi, nm_r (e' := 16) (by rw [cl]; exact r1) ?_⟩⟩⟩
    refine br_f (by decide) (br_f (by decide) (br_f (by decide) (br_f (by decide) (br_f (by decide) (br_f (by decide) (br_f (by decide) (br_f (by decide) (br_f (by decide) (br_f (by decide) (br_t rfl ?_))))))))))
    exact xq_await (K := 19) h32 hc hcc hm (Or.inr rfl) s1 s2 s9 hce s4 s5 hc' r6 rf H
theorem xs_pa17 {cc t b b' : Nat} {n : Int32} (h32 : nd' < 32) (hc : c2 nd' = nI b) (hc3 : c3 nd' = nI b') (hcc : cc < t) (hm : t + (aw_me iw b e + aw_me iw b' e + aw_mk p iw k) ≤ 128) (r : xr_k (cT, cN, cE, cK, cV, cX) ((17, nd', e, u, ix) :: k) cc) (rf : xr_f (cT, cN, cE, cK, cV, cX) (gN, gE, gC, gK, gV, gH, gT) (aw_mfk p iw) F t) (H : xr_H p iw post k0 k1 k2 k3 k4 k5 k6 k7 k8 k9 k10 rm tc fc tw st fe pr nu np nn tg ka ar c1 c2 c3 ro we op (am_E (if n = 0 then b' else b) e u k F)) : wX_passOn_38 post (nI cc) n k0 k1 k2 k3 k4 k5 k6 k7 k8 k9 k10 rm tc fc tw (nI t) (nI F.length) md nd en (nI cc) vk vl st fe pr nu np nn tg ka ar c1 c2 c3 ro we op cT cN cE cK cV cX gN gE gC gK gV gH gT := by
  obtain ⟨r0, r1, r2, r3, r4, c', hc', r5, r6⟩ := r
  obtain ⟨s1, s2, s3, ce, hce, s4, s5⟩ := r2 (by show (17 : Nat) < 18; decide)
  have s3 := s3 (by show (17 : Nat) ≠ 12; decide)
  dsimp only at r1 r5 s1 s2 s3 s4
  have cl : (nI cc).toNatClampNeg = cc := nI_clamp (by omega)
  have hi : vp_in (nI cc) 128 := vp_in_nI (by omega) (by omega)
  have cl2 : (nI nd').toNatClampNeg = nd' := nI_clamp (by omega)
  have hi2 : vp_in (nI nd') 32 := vp_in_nI (by omega) (by omega)
  refine ⟨hi, nm_r (e' := nI nd') (by rw [cl]; exact s1) ⟨hi, nm_r (e' := nI c') (by rw [cl]; exact r5) ⟨hi, nm_r (e' := 17) (by rw [cl]; exact r1) ?_⟩⟩⟩
  refine br_f (by decide) (br_f (by decide) (br_f (by decide) (br_f (by decide) (br_f (by decide) (br_f (by decide) (br_f (by decide) (br_f (by decide) (br_f (by decide) (br_f (by decide) (br_f (by decide) (br_t rfl (xq_restore (cc := cc) (a := u.1) (b := u.2) (by omega) s2 s3 ?_))))))))))))
  by_cases hz : n = 0
  · rw [if_pos hz] at H
    refine br_t hz ⟨hi2, hi, ?_⟩
    rw [cl, cl2, hc3, s4]
    exact H _ _ _ _ _ _ _ _ (cT, cN, cE, cK, cV, cX) (gN, gE, gC, gK, gV, gH, gT) (xr_mE ⟨t, ce, c', rfl, rfl, rfl, rfl, rfl, rfl, rfl, by omega, by omega, s5, r6, rf, by show t + (aw_me iw b' e + aw_mk p iw k) ≤ 128; omega⟩)
  · rw [if_neg hz] at H
    refine br_f hz ⟨hi2, hi, ?_⟩
    rw [cl, cl2, hc, s4]
    exact H _ _ _ _ _ _ _ _ (cT, cN, cE, cK, cV, cX) (gN, gE, gC, gK, gV, gH, gT) (xr_mE ⟨t, ce, c', rfl, rfl, rfl, rfl, rfl, rfl, rfl, by omega, by omega, s5, r6, rf, by show t + (aw_me iw b e + aw_mk p iw k) ≤ 128; omega⟩)
theorem xs_pa18 {cc t K : Nat} {n : Int32} (hK : K = 18 ∨ K = 19) (hcc : cc < t) (hm : t + aw_mk p iw k ≤ 128) (r : xr_k (cT, cN, cE, cK, cV, cX) ((K, nd', e, u, ix) :: k) cc) (rf : xr_f (cT, cN, cE, cK, cV, cX) (gN, gE, gC, gK, gV, gH, gT) (aw_mfk p iw) F t) (H : xr_H p iw post k0 k1 k2 k3 k4 k5 k6 k7 k8 k9 k10 rm tc fc tw st fe pr nu np nn tg ka ar c1 c2 c3 ro we op (am_G (ps_cmb (K - 3) u.2 n) k F)) : wX_passOn_38 post (nI cc) n k0 k1 k2 k3 k4 k5 k6 k7 k8 k9 k10 rm tc fc tw (nI t) (nI F.length) md nd en (nI cc) vk vl st fe pr nu np nn tg ka ar c1 c2 c3 ro we op cT cN cE cK cV cX gN gE gC gK gV gH gT := by
  have hK1 : 18 ≤ K := by omega
  obtain ⟨r0, r1, r2, r3, r4, c', hc', r5, r6⟩ := r
  have r9 := r4 hK1
  dsimp only at r1 r9 r5
  have cl : (nI cc).toNatClampNeg = cc := nI_clamp (by omega)
  have hi : vp_in (nI cc) 128 := vp_in_nI (by omega) (by omega)
  have hG : ∀ (z : Int32), (ps_cmb (K - 3) u.2 n).2 = z → post (k0, k1, k2, k3, k4, k5, k6, k7, k8, k9, k10, rm, tc, fc, tw, nI t, nI F.length, 1, nd, en, nI c', 0, z, st, fe, pr, nu, np, nn, tg, ka, ar, c1, c2, c3, ro, we, op, cT, cN, cE, cK, cV, cX, gN, gE, gC, gK, gV, gH, gT) := fun z hz =>
    H _ _ _ nd en _ _ _ (cT, cN, cE, cK, cV, cX) (gN, gE, gC, gK, gV, gH, gT) (xr_mG ⟨t, c', rfl, rfl, rfl, rfl, hz.symm, by omega, r6, rf, hm⟩)
  rcases hK with rfl | rfl
  · refine ⟨hi, nm_e ⟨hi, nm_r (e' := nI c') (by rw [cl]; exact r5) ⟨hi, nm_r (e' := 18) (by rw [cl]; exact r1) ?_⟩⟩⟩
    refine br_f (by decide) (br_t (by decide) ⟨hi, nm_r (e' := u.2) (by rw [cl]; exact r9) ⟨hi, br_t (by rw [cl]; exact r1) ?_⟩⟩)
    exact hG _ rfl
  · refine ⟨hi, nm_e ⟨hi, nm_r (e' := nI c') (by rw [cl]; exact r5) ⟨hi, nm_r (e' := 19) (by rw [cl]; exact r1) ?_⟩⟩⟩
    refine br_f (by decide) (br_t (by decide) ⟨hi, nm_r (e' := u.2) (by rw [cl]; exact r9) ⟨hi, br_f (by rw [cl, r1]; decide) (br_c (fun h => ?_) (fun h => ?_))⟩⟩)
    · exact hG 0 (if_pos h)
    · exact hG 1 (if_neg h)
/-- passOn as a whole -/
theorem xs_gv (ok : ps_ok p iw T) (xp : xr_p p T ka ar c1 c2 c3) (hN : nu = pg_n p) : ∀ {k : List AF}, aw_wG p iw T v k F → xr_G p iw v k F ht ft co vk vl (cT, cN, cE, cK, cV, cX) (gN, gE, gC, gK, gV, gH, gT) → xr_H p iw post k0 k1 k2 k3 k4 k5 k6 k7 k8 k9 k10 rm tc fc tw st fe pr nu np nn tg ka ar c1 c2 c3 ro we op (am_gv p v k F) → wpX_passOn post (k0, k1, k2, k3, k4, k5, k6, k7, k8, k9, k10, rm, tc, fc, tw, ht, ft, 1, nd, en, co, vk, vl, st, fe, pr, nu, np, nn, tg, ka, ar, c1, c2, c3, ro, we, op, cT, cN, cE, cK, cV, cX, gN, gE, gC, gK, gV, gH, gT)
  | [], w, r, H => by
    obtain ⟨t, cc, rfl, rfl, rfl, rfl, rfl, hcc, rk, rf, hm⟩ := r
    have r0 : cc = 0 := rk
    subst r0
    exact br_t rfl (H _ _ _ nd en (nI 0) _ _ (cT, cN, cE, cK, cV, cX) (gN, gE, gC, gK, gV, gH, gT) ⟨rfl, ⟨t, rfl, rfl, by omega, rf⟩, rfl, rfl⟩)
  | q :: k, w, r, H => by
    obtain ⟨t, cc, rfl, rfl, rfl, rfl, rfl, hcc, rk, rf, hm⟩ := r
    have h0 : 0 < cc := rk.1
    have hm' : t + (aw_mf p iw q + aw_mk p iw k) ≤ 128 := hm
    have h1 := aw_mf1 (p := p) (iw := iw) q
    have h32 := ok.1
    have hF : F.length ≤ 64 := by have := w.2.2.2; omega
    obtain ⟨hq, hk⟩ := aw_k_e w.2.1
    have key : ∀ n, n = ps_num p v → wX_passOn_38 post (nI cc) n k0 k1 k2 k3 k4 k5 k6 k7 k8 k9 k10 rm tc fc tw (nI t) (nI F.length) 1 nd en (nI cc) v.1 v.2 st fe pr nu np nn tg ka ar c1 c2 c3 ro we op cT cN cE cK cV cX gN gE gC gK gV gH gT := by
      intro n hn
      obtain ⟨tg', nd', e, u, ix⟩ := q
      rcases hq.1 with c | c | c | c | c | c | c | c | c <;> dsimp only at c <;> subst c
      · rw [am_gv8, ← hn] at H
        exact xs_pa8 hcc (by omega) rk rf H
      · rw [am_gv10] at H
        obtain ⟨h1, h2, h3, h4⟩ := hq.2.1 (by show (10 : Nat) < 18; decide)
        dsimp only at h1 h2
        have hm2 : t + ((aw_me iw (pg_2 p nd') e + 2) + aw_mk p iw k) ≤ 128 := hm
        exact xs_pa10 (by omega) ((xp nd' h1).2.2.2.1 (by omega)) hcc (by omega) rk rf H
      · rw [am_gv12, ← hn] at H
        have h2 := (hq.2.2 rfl).1
        dsimp only at h2
        exact xs_pa12 (by omega) hcc (by omega) rk rf H
      · rw [am_gv13] at H
        obtain ⟨h1, h2, h3, h4⟩ := hq.2.1 (by show (13 : Nat) < 18; decide)
        dsimp only at h1 h2
        have hm2 : t + ((aw_me iw (pg_2 p nd') e + 2) + aw_mk p iw k) ≤ 128 := hm
        exact xs_pa13 (by omega) ((xp nd' h1).2.2.2.1 (by omega)) (xp nd' h1).2.1 hcc (by omega) rk rf H
      · rw [am_gv15, ← hn] at H
        obtain ⟨h1, h2, h3, h4⟩ := hq.2.1 (by show (15 : Nat) < 18; decide)
        dsimp only at h1 h2
        have hm2 : t + ((aw_me iw (pg_2 p nd') e + 2) + aw_mk p iw k) ≤ 128 := hm
        exact xs_pa15 (K := 15) (Or.inl rfl) (by omega) ((xp nd' h1).2.2.2.1 (by omega)) hcc (by omega) rk rf H
      · rw [am_gv16, ← hn] at H
        obtain ⟨h1, h2, h3, h4⟩ := hq.2.1 (by show (16 : Nat) < 18; decide)
        dsimp only at h1 h2
        have hm2 : t + ((aw_me iw (pg_2 p nd') e + 2) + aw_mk p iw k) ≤ 128 := hm
        exact xs_pa15 (K := 16) (Or.inr rfl) (by omega) ((xp nd' h1).2.2.2.1 (by omega)) hcc (by omega) rk rf H
      · rw [am_gv17, ← hn] at H
        obtain ⟨h1, h2, h3, h4⟩ := hq.2.1 (by show (17 : Nat) < 18; decide)
        dsimp only at h1 h2
        have hm2 : t + ((aw_me iw (pg_2 p nd') e + aw_me iw (pg_3 p nd') e + 2) + aw_mk p iw k) ≤ 128 := hm
        exact xs_pa17 (by omega) ((xp nd' h1).2.2.2.1 (by omega)) ((xp nd' h1).2.2.2.2 (by omega)) hcc (by omega) rk rf H
      · rw [am_gv18, ← hn] at H
        exact xs_pa18 (K := 18) (Or.inl rfl) hcc (by omega) rk rf H
      · rw [am_gv19, ← hn] at H
        exact xs_pa18 (K := 19) (Or.inr rfl) hcc (by omega) rk rf H
    refine br_f (nI_ne0 h0 (by omega)) (br_c (fun hz => key _ ?_) (fun hz => ⟨?_, key _ ?_⟩))
    · rw [ps_num, if_pos hz]
    · obtain ⟨j, hj, ej⟩ := w.2.2.1.2 hz
      rw [ej]; exact vp_in_nI hj (by omega)
    · rw [ps_num, if_neg hz, hN]
end
end
section
section
variable {p : PG} {iw : Nat → Nat → Nat} {T : Nat} {v : PV} {post : SX → Prop} {k0 k1 k2 k3 k4 k5 k6 k7 k8 k9 k10 rm tc fc tw ht ft md nd en co vk vl st fe : Int32} {pr nu np nn tg ka ar c1 c2 c3 ro we op cT cN cE cK cV cX gN gE gC gK gV gH gT : Nat → Int32}
theorem xq_nc {x1 : Int32} (hP : pr = pg_p p) (hv : ∀ c, c < 3 → vp_in (3 * v.2 + 1 + nI c) 40) : ∀ {j c : Nat}, c + j = 3 → wX_nextChild_38 post x1 (3 * v.2 + 1) (nI (am_nc p v j c)) k0 k1 k2 k3 k4 k5 k6 k7 k8 k9 k10 rm tc fc tw ht ft md nd en co vk vl st fe pr nu np nn tg ka ar c1 c2 c3 ro we op cT cN cE cK cV cX gN gE gC gK gV gH gT → wX_nextChild_16 post x1 (3 * v.2 + 1) k0 k1 k2 k3 k4 k5 k6 k7 k8 k9 k10 rm tc fc tw ht ft md nd en co vk vl st fe pr nu np nn tg ka ar c1 c2 c3 ro we op cT cN cE cK cV cX gN gE gC gK gV gH gT (j + 1) (nI c)
  | 0, c, h, H => by
    have hc : c = 3 := by omega
    subst hc
    exact br_t (by decide) H
  | j + 1, c, h, H => by
    rw [am_nc] at H
    refine br_f (nI_ge (b := 3) (by omega) (by decide)) ⟨hv c (by omega), br_c (fun z => nm_r (nI_1 c) (xq_nc hP hv (by omega) ?_)) (fun z => ?_)⟩
    · rw [hP] at z
      rw [if_pos z] at H; exact H
    · rw [hP] at z
      rw [if_neg z] at H; exact H
theorem xs_bk (ok : ps_ok p iw T) (xp : xr_p p T ka ar c1 c2 c3) (hP : pr = pg_p p) : ∀ {F : List AK}, aw_fk p iw T F → xr_B p iw F ht ft (cT, cN, cE, cK, cV, cX) (gN, gE, gC, gK, gV, gH, gT) → xr_H p iw post k0 k1 k2 k3 k4 k5 k6 k7 k8 k9 k10 rm tc fc tw st fe pr nu np nn tg ka ar c1 c2 c3 ro we op (am_bk p F) → wpX_backtrack post (k0, k1, k2, k3, k4, k5, k6, k7, k8, k9, k10, rm, tc, fc, tw, ht, ft, 2, nd, en, co, vk, vl, st, fe, pr, nu, np, nn, tg, ka, ar, c1, c2, c3, ro, we, op, cT, cN, cE, cK, cV, cX, gN, gE, gC, gK, gV, gH, gT)
  | [], _, r, H => by
    obtain ⟨t, rfl, rfl, ht1, rf⟩ := r
    exact br_t rfl (H _ _ _ nd en co vk vl (cT, cN, cE, cK, cV, cX) (gN, gE, gC, gK, gV, gH, gT) rfl)
  | x :: F, w, r, H => by
    obtain ⟨f, e, k, v, c⟩ := x
    obtain ⟨wF, hf, we, wk, wv, wK, w2, w3, wm⟩ := w
    dsimp only at hf we wk wv wK w2 w3
    obtain ⟨t, rfl, rfl, ht1, b, hb, r1, ⟨ce, hce, q2, q3⟩, ⟨cc, hcc, s2, s3⟩, r4, r5, r6, r7, r8, r9⟩ := r
    dsimp only at r1 q2 s2 r4 r5 r6 r7 q3 s3
    have h32 := ok.1
    have hF : F.length < 64 := by
      have := wm
      have h1 : 1 ≤ aw_mfk p iw (f, e, k, v, c) := by
        rw [aw_mfk]; dsimp only
        split
        · omega
        · have := aw_me1 (e := e) ok (ps_c2 ok hf (by omega)); omega
      omega
    have cl : (nI F.length).toNatClampNeg = F.length := nI_clamp (by omega)
    have hi : vp_in (nI F.length) 64 := vp_in_nI (by omega) (by omega)
    have cl2 : (nI f).toNatClampNeg = f := nI_clamp (by omega)
    have hi2 : vp_in (nI f) 32 := vp_in_nI (by omega) (by omega)
    rw [am_bk_c] at H
    refine br_f (nI_ne0 (Nat.succ_pos _) (by rw [List.length_cons]; omega)) (nm_r (nI_pred F.length) ⟨hi, nm_r (e' := nI f) (by rw [cl]; exact r1) ⟨hi, nm_r (e' := nI ce) (by rw [cl]; exact q2) ⟨hi, nm_r (e' := nI cc) (by rw [cl]; exact s2) ⟨hi, nm_r (e' := v.1) (by rw [cl]; exact r4) ⟨hi, nm_r (e' := v.2) (by rw [cl]; exact r5) ⟨hi, nm_r (e' := nI b) (by rw [cl]; exact r6) ⟨hi2, ?_⟩⟩⟩⟩⟩⟩⟩)
    by_cases hk : pg_k p f = 2
    · obtain ⟨h1, h2, h3⟩ := w2 hk
      rw [if_pos hk] at H
      have hn := am_nc_ge (p := p) (u := v) (n := 3 - c) (c := c)
      have hvv : ∀ c, c < 3 → vp_in (3 * v.2 + 1 + nI c) 40 := fun c hc => by
        obtain ⟨j, hj, _, ej⟩ := aw_v3 (c := c) wv h1 (Int32.not_lt.mp h2)
        rw [ej]; exact vp_in_nI (by omega) (by omega)
      rw [aw_mfk, if_pos hk] at r8
      dsimp only at r8
      refine br_t (by rw [cl2, (xp f hf).1, hk]; rfl) (nm_e ⟨hi, nm_r (e' := nI c) (by rw [cl]; exact r7) ⟨3 - c + 1, xq_nc hP hvv (by omega) ?_⟩⟩)
      by_cases hc : am_nc p v (3 - c) c < 3
      · rw [if_pos hc] at H
        refine br_t (nI_lt (b := 3) hc (by decide)) ⟨hi, nm_r (e' := upd gT F.length (nI (am_nc p v (3 - c) c + 1))) (by rw [cl, nI_1]) (nm_e ?_)⟩
        refine H _ _ _ (nI f) (nI ce) _ _ _ (cT, cN, cE, cK, cV, cX) (gN, gE, gC, gK, gV, gH, upd gT F.length (nI (am_nc p v (3 - c) c + 1))) (xr_mG ⟨b, cc, rfl, rfl, rfl, rfl, rfl, hcc, s3, ⟨b, Nat.le_refl _, r1, ⟨ce, hce, q2, q3⟩, ⟨cc, hcc, s2, s3⟩, r4, r5, r6, pk_us, ?_, xr_f_ag xr_ag_rf (xr_gg_T (Nat.le_refl _)) r9⟩, ?_⟩)
        · rw [aw_mfk, if_pos hk]; exact r8
        · show b + aw_mk p iw k ≤ 128; omega
      · rw [if_neg hc] at H
        refine br_f (nI_nlt (b := 3) (by omega) (by omega)) ?_
        exact H _ _ _ (nI f) (nI ce) (nI cc) _ _ (cT, cN, cE, cK, cV, cX) (gN, gE, gC, gK, gV, gH, gT) (xr_mB ⟨b, rfl, rfl, by omega, r9⟩)
    · rw [if_neg hk] at H
      rw [aw_mfk, if_neg hk] at r8
      dsimp only at r8
      have hkn : ¬ ka (nI f).toNatClampNeg = 2 := by
        rw [cl2, (xp f hf).1]
        exact pb_ne (b := 2) (by omega) (by decide) hk
      refine br_f hkn ⟨hi, ?_⟩
      by_cases hc : c = 0
      · rw [if_pos hc] at H
        refine br_t (by rw [cl, r7, hc]; rfl) ⟨hi2, ?_⟩
        rw [cl2, (xp f hf).2.2.2.1 (by omega)]
        exact H _ _ _ _ _ _ _ _ (cT, cN, cE, cK, cV, cX) (gN, gE, gC, gK, gV, gH, gT) (xr_mE ⟨b, ce, cc, rfl, rfl, rfl, rfl, rfl, rfl, rfl, hce, hcc, q3, s3, r9, r8⟩)
      · rw [if_neg hc] at H
        refine br_f (by rw [cl, r7]; exact nI_ne0 (by omega) (by omega)) ?_
        exact H _ _ _ (nI f) (nI ce) (nI cc) _ _ (cT, cN, cE, cK, cV, cX) (gN, gE, gC, gK, gV, gH, gT) (xr_mB ⟨b, rfl, rfl, by omega, r9⟩)
end
/-! ===== resume ===== -/
def xr_S (p : PG) (iw : Nat → Nat → Nat) (T : Nat) (post : Int32 → SX → Prop) (k0 k1 k2 k3 k4 k5 k6 k7 k8 k9 k10 rm tc fc tw st fe : Int32) (pr nu np nn tg ka ar c1 c2 c3 ro we op : Nat → Int32) (c : AC) : Prop :=
  aw_wf p iw T c → ∀ (ht ft md nd en co vk vl : Int32) (h : XH) (g : XF), xr_m p iw c ht ft md nd en co vk vl h g → ∀ i, i + aw_pot p iw c < 1000000 → wX_resume_15 post (1000001 - i) (nI i) k0 k1 k2 k3 k4 k5 k6 k7 k8 k9 k10 rm tc fc tw ht ft md nd en co vk vl st fe pr nu np nn tg ka ar c1 c2 c3 ro we op h.1 h.2.1 h.2.2.1 h.2.2.2.1 h.2.2.2.2.1 h.2.2.2.2.2 g.1 g.2.1 g.2.2.1 g.2.2.2.1 g.2.2.2.2.1 g.2.2.2.2.2.1 g.2.2.2.2.2.2
section
variable {p : PG} {iw : Nat → Nat → Nat} {T : Nat} {post : Int32 → SX → Prop} {k0 k1 k2 k3 k4 k5 k6 k7 k8 k9 k10 rm tc fc tw st fe : Int32} {pr nu np nn tg ka ar c1 c2 c3 ro we op : Nat → Int32}
theorem xs_SE (ok : ps_ok p iw T) (xp : xr_p p T ka ar c1 c2 c3) (f : Nat) (e : PE) (v : PV) (k : List AF) (F : List AK) (h : xr_S p iw T post k0 k1 k2 k3 k4 k5 k6 k7 k8 k9 k10 rm tc fc tw st fe pr nu np nn tg ka ar c1 c2 c3 ro we op (am_ev p f e v k F)) : xr_S p iw T post k0 k1 k2 k3 k4 k5 k6 k7 k8 k9 k10 rm tc fc tw st fe pr nu np nn tg ka ar c1 c2 c3 ro we op (am_E f e v k F) := by
  intro w ht ft md nd en co vk vl hh g r i hi
  obtain ⟨a1, a2, a3, a4, a5, a6⟩ := hh
  obtain ⟨b1, b2, b3, b4, b5, b6, b7⟩ := g
  obtain ⟨rfl, r⟩ := r
  have q := aw_sE (f := f) (e := e) (v := v) (k := k) (F := F) ok w
  rw [show 1000001 - i = (1000000 - i) + 1 by omega]
  refine br_f (nI_ge (b := 1000000) (by omega) (by decide)) (br_f (by decide) (br_t rfl (xs_ev ok xp w r ?_)))
  intro ht' ft' md' nd' en' co' vk' vl' h' g' r'
  refine nm_r (nI_1 i) ?_
  have := h q.1 ht' ft' md' nd' en' co' vk' vl' h' g' r' (i + 1) (by omega)
  rw [show 1000001 - (i + 1) = 1000000 - i by omega] at this
  exact this
theorem xs_SG (ok : ps_ok p iw T) (xp : xr_p p T ka ar c1 c2 c3) (hN : nu = pg_n p) (v : PV) (k : List AF) (F : List AK) (h : xr_S p iw T post k0 k1 k2 k3 k4 k5 k6 k7 k8 k9 k10 rm tc fc tw st fe pr nu np nn tg ka ar c1 c2 c3 ro we op (am_gv p v k F)) : xr_S p iw T post k0 k1 k2 k3 k4 k5 k6 k7 k8 k9 k10 rm tc fc tw st fe pr nu np nn tg ka ar c1 c2 c3 ro we op (am_G v k F) := by
  intro w ht ft md nd en co vk vl hh g r i hi
  obtain ⟨a1, a2, a3, a4, a5, a6⟩ := hh
  obtain ⟨b1, b2, b3, b4, b5, b6, b7⟩ := g
  obtain ⟨rfl, r⟩ := r
  have q := aw_sG (v := v) (F := F) (k := k) ok w
  rw [show 1000001 - i = (1000000 - i) + 1 by omega]
  refine br_f (nI_ge (b := 1000000) (by omega) (by decide)) (br_f (by decide) (br_f (by decide) (br_t rfl (xs_gv ok xp hN w r ?_))))
  intro ht' ft' md' nd' en' co' vk' vl' h' g' r'
  refine nm_r (nI_1 i) ?_
  have := h q.1 ht' ft' md' nd' en' co' vk' vl' h' g' r' (i + 1) (by omega)
  rw [show 1000001 - (i + 1) = 1000000 - i by omega] at this
  exact this
theorem xs_SB (ok : ps_ok p iw T) (xp : xr_p p T ka ar c1 c2 c3) (hP : pr = pg_p p) (F : List AK) (h : xr_S p iw T post k0 k1 k2 k3 k4 k5 k6 k7 k8 k9 k10 rm tc fc tw st fe pr nu np nn tg ka ar c1 c2 c3 ro we op (am_bk p F)) : xr_S p iw T post k0 k1 k2 k3 k4 k5 k6 k7 k8 k9 k10 rm tc fc tw st fe pr nu np nn tg ka ar c1 c2 c3 ro we op (am_B F) := by
  intro w ht ft md nd en co vk vl hh g r i hi
  obtain ⟨a1, a2, a3, a4, a5, a6⟩ := hh
  obtain ⟨b1, b2, b3, b4, b5, b6, b7⟩ := g
  obtain ⟨rfl, r⟩ := r
  have w := aw_wB_e w
  have q := aw_sB ok w
  rw [show 1000001 - i = (1000000 - i) + 1 by omega]
  refine br_f (nI_ge (b := 1000000) (by omega) (by decide)) (br_f (by decide) (br_f (by decide) (br_f (by decide) (xs_bk ok xp hP w r ?_))))
  intro ht' ft' md' nd' en' co' vk' vl' h' g' r'
  refine nm_r (nI_1 i) ?_
  have := h q.1 ht' ft' md' nd' en' co' vk' vl' h' g' r' (i + 1) (by omega)
  rw [show 1000001 - (i + 1) = 1000000 - i by omega] at this
  exact this
theorem xs_rc (ok : ps_ok p iw T) (xp : xr_p p T ka ar c1 c2 c3) (hP : pr = pg_p p) (hN : nu = pg_n p) {c d : AC} (h : am_rc p c d) (hd : xr_S p iw T post k0 k1 k2 k3 k4 k5 k6 k7 k8 k9 k10 rm tc fc tw st fe pr nu np nn tg ka ar c1 c2 c3 ro we op d) : xr_S p iw T post k0 k1 k2 k3 k4 k5 k6 k7 k8 k9 k10 rm tc fc tw st fe pr nu np nn tg ka ar c1 c2 c3 ro we op c :=
  h _ (xs_SE ok xp) (xs_SG ok xp hN) (xs_SB ok xp hP) hd
end
/-- the machine at rest still yields l -/
def xr_R (p : PG) (iw : Nat → Nat → Nat) (T : Nat) (l : List PV) (ht ft md nd en co vk vl : Int32) (h : XH) (g : XF) : Prop :=
  ∃ c : AC, aw_wf p iw T c ∧ aw_pot p iw c < 1000000 ∧ am_yld p l c ∧ xr_m p iw c ht ft (if md = 3 then 2 else md) nd en co vk vl h g
section
variable {p : PG} {iw : Nat → Nat → Nat} {T : Nat} {post : Int32 → SX → Prop} {k0 k1 k2 k3 k4 k5 k6 k7 k8 k9 k10 rm tc fc tw ht ft md nd en co vk vl st fe : Int32} {pr nu np nn tg ka ar c1 c2 c3 ro we op cT cN cE cK cV cX gN gE gC gK gV gH gT : Nat → Int32}
theorem xs_resume {l : List PV} (ok : ps_ok p iw T) (xp : xr_p p T ka ar c1 c2 c3) (hP : pr = pg_p p) (hN : nu = pg_n p) (R : xr_R p iw T l ht ft md nd en co vk vl (cT, cN, cE, cK, cV, cX) (gN, gE, gC, gK, gV, gH, gT))
    (H0 : l = [] → ∀ (ht ft md nd en co vk vl : Int32) (h : XH) (g : XF), post 0 (k0, k1, k2, k3, k4, k5, k6, k7, k8, k9, k10, rm, tc, fc, tw, ht, ft, md, nd, en, co, vk, vl, st, fe, pr, nu, np, nn, tg, ka, ar, c1, c2, c3, ro, we, op, h.1, h.2.1, h.2.2.1, h.2.2.2.1, h.2.2.2.2.1, h.2.2.2.2.2, g.1, g.2.1, g.2.2.1, g.2.2.2.1, g.2.2.2.2.1, g.2.2.2.2.2.1, g.2.2.2.2.2.2))
    (H1 : ∀ o os, l = o :: os → aw_v o → ∀ (ht ft nd en co : Int32) (h : XH) (g : XF), xr_R p iw T os ht ft 3 nd en co o.1 o.2 h g → post 1 (k0, k1, k2, k3, k4, k5, k6, k7, k8, k9, k10, rm, tc, fc, tw, ht, ft, 3, nd, en, co, o.1, o.2, st, fe, pr, nu, np, nn, tg, ka, ar, c1, c2, c3, ro, we, op, h.1, h.2.1, h.2.2.1, h.2.2.2.1, h.2.2.2.2.1, h.2.2.2.2.2, g.1, g.2.1, g.2.2.1, g.2.2.2.1, g.2.2.2.2.1, g.2.2.2.2.2.1, g.2.2.2.2.2.2)) : wpX_resume post (k0, k1, k2, k3, k4, k5, k6, k7, k8, k9, k10, rm, tc, fc, tw, ht, ft, md, nd, en, co, vk, vl, st, fe, pr, nu, np, nn, tg, ka, ar, c1, c2, c3, ro, we, op, cT, cN, cE, cK, cV, cX, gN, gE, gC, gK, gV, gH, gT) := by
  obtain ⟨c, wf, pot, yl, rm'⟩ := R
  have key : ∀ md', xr_m p iw c ht ft md' nd en co vk vl (cT, cN, cE, cK, cV, cX) (gN, gE, gC, gK, gV, gH, gT) → ∃ n, wX_resume_15 post n 0 k0 k1 k2 k3 k4 k5 k6 k7 k8 k9 k10 rm tc fc tw ht ft md' nd en co vk vl st fe pr nu np nn tg ka ar c1 c2 c3 ro we op cT cN cE cK cV cX gN gE gC gK gV gH gT := by
    intro md' r
    cases l with
    | nil =>
      have q := xs_rc (post := post) (k0 := k0) (k1 := k1) (k2 := k2) (k3 := k3) (k4 := k4) (k5 := k5) (k6 := k6) (k7 := k7) (k8 := k8) (k9 := k9) (k10 := k10) (rm := rm) (tc := tc) (fc := fc) (tw := tw) (st := st) (fe := fe) (np := np) (nn := nn) (tg := tg) (ro := ro) (we := we) (op := op) ok xp hP hN (show am_rc p c am_N from yl) (by
        intro w ht ft md nd en co vk vl hh g r i hi
        have e4 : md = 4 := r
        subst e4
        rw [show 1000001 - i = (1000000 - i) + 1 by omega]
        refine br_f (nI_ge (b := 1000000) (by omega) (by decide)) (br_t (by decide) (br_f (by decide) ?_))
        exact H0 rfl _ _ _ _ _ _ _ _ _ _)
      exact ⟨_, q wf _ _ _ _ _ _ _ _ (cT, cN, cE, cK, cV, cX) (gN, gE, gC, gK, gV, gH, gT) r 0 (by omega)⟩
    | cons o os =>
      obtain ⟨F, y1, y2⟩ := yl
      have q := xs_rc (post := post) (k0 := k0) (k1 := k1) (k2 := k2) (k3 := k3) (k4 := k4) (k5 := k5) (k6 := k6) (k7 := k7) (k8 := k8) (k9 := k9) (k10 := k10) (rm := rm) (tc := tc) (fc := fc) (tw := tw) (st := st) (fe := fe) (np := np) (nn := nn) (tg := tg) (ro := ro) (we := we) (op := op) ok xp hP hN y1 (by
        intro w ht ft md nd en co vk vl hh g r i hi
        obtain ⟨rfl, r, rfl, rfl⟩ := r
        rw [show 1000001 - i = (1000000 - i) + 1 by omega]
        refine br_f (nI_ge (b := 1000000) (by omega) (by decide)) (br_t (by decide) (br_t rfl ?_))
        exact H1 o os rfl (w.2 rfl) _ _ _ _ _ _ _ ⟨am_B F, aw_wB_i w.1, by
          have : aw_pot p iw (am_D o F) = aw_pot p iw (am_B F) := rfl
          omega, y2, rfl, r⟩)
      exact ⟨_, q wf _ _ _ _ _ _ _ _ (cT, cN, cE, cK, cV, cX) (gN, gE, gC, gK, gV, gH, gT) r 0 (by omega)⟩
  by_cases h3 : md = 3
  · rw [if_pos h3] at rm'
    exact br_t h3 (key 2 rm')
  · rw [if_neg h3] at rm'
    exact br_f h3 (key md rm')
/-- begin: the machine then yields the meaning of the filter -/
theorem xs_begin (ok : ps_ok p iw T) {f j : Nat} (hf : f < T) (hw : iw f 0 ≤ 24) (hj : j < 40) (N : Nat) (hN : iw f 0 ≤ N) : xr_R p iw T (ps_ev p N f [] (2, nI j)).1 1 0 0 (nI f) 0 0 2 (nI j) (cT, cN, cE, cK, cV, cX) (gN, gE, gC, gK, gV, gH, gT) := by
  have hm : aw_me iw f [] ≤ 47 := by unfold aw_me; rw [ps_pe]; omega
  refine ⟨am_E f [] (2, nI j) [] [], ⟨trivial, fun q hq => (by cases hq), aw_v_i (Or.inr (Or.inr rfl)) hj, by show 0 + (aw_me iw f [] + 0) ≤ 64; omega, hf, fun x hx => (by cases hx)⟩, ?_, ?_, ?_⟩
  · show aw_G (aw_me iw f [] + 0) + 0 < 1000000
    have := aw_Gm (a := aw_me iw f [] + 0) (b := 47) (by omega)
    have := aw_G47
    omega
  · exact am_top (am_main ok N f [] (2, nI j) [] 0 hf (fun x hx => by cases hx) hN (fun l => Nat.le_refl _))
  · refine ⟨rfl, 1, 0, 0, rfl, rfl, rfl, rfl, rfl, rfl, rfl, by decide, by decide, rfl, rfl, Nat.le_refl _, ?_⟩
    show 1 + (aw_me iw f [] + 0) ≤ 128; omega
end
end
section
/-! ===== bounds: numbers of outputs, room in the reference's lists, its steps ===== -/
def tb_O (n : Nat) : Nat := [0, 1, 1, 3, 3, 4, 4, 9, 9, 12, 12, 27, 27, 36, 36, 81, 81, 108, 108, 243, 243, 324, 324, 729, 729].getD n 0
def tb_U (n : Nat) : Nat := [0, 1, 2, 3, 6, 7, 10, 15, 18, 25, 28, 45, 54, 73, 82, 129, 162, 211, 244, 375, 486, 619, 730, 1107, 1458].getD n 0
def tb_S (n : Nat) : Nat := [0, 2, 7, 12, 21, 31, 49, 69, 105, 145, 217, 297, 441, 601, 889, 1209, 1785, 2425, 3577, 4857, 7161, 9721, 14329, 19449, 28665].getD n 0
theorem tb_d1 : ∀ a, a < 25 → ∀ b, b < 25 → a + b + 1 < 25 → tb_O a * tb_O b ≤ tb_O (a + b + 1) := by decide +kernel
theorem tb_d2 : ∀ a, a < 25 → ∀ b, b < 25 → a + b + 1 < 25 → tb_O a + tb_O b ≤ tb_O (a + b + 1) := by decide +kernel
theorem tb_d3 : ∀ a, a < 25 → ∀ b, b < 25 → a + b + 1 < 25 → tb_O a + tb_O a * tb_O b + tb_U b ≤ tb_U (a + b + 1) := by decide +kernel
theorem tb_d4 : ∀ a, a < 24 → ∀ b, b < 24 → a + b + 3 < 25 → 4 + tb_S (a + 1) + tb_O (a + 1) * (1 + tb_S (b + 1)) + tb_S (b + 1) ≤ tb_S (a + b + 3) := by decide +kernel
theorem tb_c2 : ∀ a, a < 25 → ∀ b, b < 25 → 1 ≤ a → 1 ≤ b → a + b + 1 < 25 → tb_O a * tb_O b ≤ tb_O (a + b + 1) ∧ tb_O a + tb_O b ≤ tb_O (a + b + 1) ∧ tb_O a + tb_O a * tb_O b + tb_U b ≤ tb_U (a + b + 1) ∧ 4 + tb_S a + tb_O a * (1 + tb_S b) + tb_S b ≤ tb_S (a + b + 1) := by
  intro a ha b hb h1 h2 h3
  refine ⟨tb_d1 a ha b hb h3, tb_d2 a ha b hb h3, tb_d3 a ha b hb h3, ?_⟩
  obtain ⟨a', rfl⟩ : ∃ a', a = a' + 1 := ⟨a - 1, by omega⟩
  obtain ⟨b', rfl⟩ : ∃ b', b = b' + 1 := ⟨b - 1, by omega⟩
  have := tb_d4 a' (by omega) b' (by omega) (by omega)
  rw [show a' + 1 + (b' + 1) + 1 = a' + b' + 3 by omega]; exact this
theorem tb_c1 : ∀ a, a < 24 → 1 ≤ a → tb_O a ≤ tb_O (a + 1) ∧ tb_U a ≤ tb_U (a + 1) ∧ tb_S a + tb_O a + 4 ≤ tb_S (a + 1) ∧ 2 * tb_O a ≤ tb_U (a + 1) := by decide +kernel
theorem tb_c0 : ∀ a, a < 25 → 1 ≤ a → 1 ≤ tb_O a ∧ tb_O a ≤ tb_U a ∧ 2 ≤ tb_S a ∧ tb_O a ≤ 729 ∧ tb_U a ≤ 1458 ∧ tb_S a ≤ 28665 := by decide +kernel
theorem tb_m {a b : Nat} (h1 : 1 ≤ a) (h : a ≤ b) (hb : b < 25) : tb_O a ≤ tb_O b ∧ tb_U a ≤ tb_U b ∧ tb_S a ≤ tb_S b := by
  induction h with
  | refl => exact ⟨Nat.le_refl _, Nat.le_refl _, Nat.le_refl _⟩
  | step h ih =>
    have q := ih (by omega)
    have r := tb_c1 _ (show _ < 24 by omega) (Nat.le_trans h1 h)
    exact ⟨Nat.le_trans q.1 r.1, Nat.le_trans q.2.1 r.2.1, Nat.le_trans q.2.2 (Nat.le_trans (by omega) r.2.2.1)⟩
theorem ps_bnd_mem {z : Option Nat} {g : PV → PR} {o : PV} : ∀ {as : List PV}, o ∈ (ps_bnd z g as).1 → ∃ a, a ∈ as ∧ o ∈ (g a).1
  | [], h => by cases h
  | a :: as, h => by
    rw [ps_bnd, ps_sq] at h
    split at h
    · rcases List.mem_append.mp h with h | h
      · exact ⟨a, List.mem_cons_self, h⟩
      · obtain ⟨b, hb, ho⟩ := ps_bnd_mem h
        exact ⟨b, List.mem_cons_of_mem _ hb, ho⟩
    · exact ⟨a, List.mem_cons_self, h⟩
theorem ps_bnd_len {z : Option Nat} {g : PV → PR} {B : Nat} (hg : ∀ a, (g a).1.length ≤ B) : ∀ {as : List PV}, (ps_bnd z g as).1.length ≤ as.length * B
  | [] => Nat.zero_le _
  | a :: as => by
    have ih := ps_bnd_len (z := z) hg (as := as)
    have h := hg a
    rw [ps_bnd, ps_sq, List.length_cons, Nat.add_mul, Nat.one_mul]
    split
    · rw [List.length_append]; omega
    · have := Nat.zero_le (as.length * B); omega
theorem ps_sq_len {r s : PR} : (ps_sq r s).1.length ≤ r.1.length + s.1.length := by
  rw [ps_sq]; split
  · rw [List.length_append]; exact Nat.le_refl _
  · omega
theorem ps_chs_mem {p : PG} {v o : PV} : ∀ {n c : Nat}, o ∈ ps_chs p v n c → ∃ j, j < c + n ∧ o = (v.1, 3 * v.2 + 1 + nI j)
  | 0, _, h => by cases h
  | n + 1, c, h => by
    rw [ps_chs] at h
    split at h
    · obtain ⟨j, hj, e⟩ := ps_chs_mem h
      exact ⟨j, by omega, e⟩
    · rcases List.mem_cons.mp h with h | h
      · exact ⟨c, by omega, h⟩
      · obtain ⟨j, hj, e⟩ := ps_chs_mem h
        exact ⟨j, by omega, e⟩
theorem ps_chs_len {p : PG} {v : PV} : ∀ {n c : Nat}, (ps_chs p v n c).length ≤ n
  | 0, _ => Nat.le_refl _
  | n + 1, c => by
    have := ps_chs_len (p := p) (v := v) (n := n) (c := c + 1)
    rw [ps_chs]; split
    · omega
    · rw [List.length_cons]; omega
theorem aw_v_each {p : PG} {v : PV} (hv : aw_v v) : ∀ o, o ∈ ps_each p v → aw_v o := by
  intro o ho
  unfold ps_each at ho
  split at ho
  · cases ho
  · rename_i h1
    split at ho
    · cases ho
    · rename_i h2
      obtain ⟨j, hj, e⟩ := ps_chs_mem ho
      rw [e]; exact aw_v_ch hv h1 (Int32.not_lt.mp h2) (by omega)
section
variable {p : PG} {iw : Nat → Nat → Nat} {T : Nat}
theorem ps_ev_v (ok : ps_ok p iw T) : ∀ (N f n : Nat) (e : PE) (v : PV), f < T → aw_e T n e → aw_v v → ∀ o, o ∈ (ps_ev p N f e v).1 → aw_v o := by
  intro N
  induction N with
  | zero => intro f n e v _ _ _ o ho; cases ho
  | succ N ih =>
    intro f n e v hf he hv o ho
    rcases ps_kinds (ok.2 f hf).1 with c | c | c | c | c | c | c | c | c | c | c | c | c | c | c | c | c
    · rw [ps_ev0 c] at ho; rw [List.mem_singleton.mp ho]; exact hv
    · rw [ps_ev1 c] at ho; exact aw_v_key hv o ho
    · rw [ps_ev2 c] at ho; exact aw_v_each hv o ho
    · rw [ps_ev3 c] at ho; rw [List.mem_singleton.mp ho]; exact aw_v_0
    · rw [ps_ev4 c] at ho; rw [List.mem_singleton.mp ho]; exact aw_v_var he
    · rw [ps_ev5 c] at ho; cases ho
    · rw [ps_ev6 c] at ho
      cases hx : ps_fd 14 (-1) e with
      | nil => rw [hx] at ho; cases ho
      | cons x e' =>
        rw [hx] at ho
        have h1 := ps_fd_cons (iw := iw) hx (aw_e_ok ok.1 he)
        exact ih _ n _ _ h1.2.2 (aw_e_tl he hx) hv o ho
    · rw [ps_ev7 c] at ho; cases ho
    · rw [ps_ev8 c] at ho
      obtain ⟨a, ha, h⟩ := ps_bnd_mem ho
      exact aw_v_key hv o h
    · rw [ps_ev9 c] at ho
      exact ih _ n _ _ (ps_c1 ok hf (by omega)) (aw_e_c he ⟨(show (9 : Nat) ≤ 17 by decide), (fun z => by cases z), (fun z => by cases z), fun _ => Nat.zero_le _⟩) hv o ho
    · rw [ps_ev10 c] at ho
      obtain ⟨a, ha, h⟩ := ps_bnd_mem ho
      exact ih _ n _ _ (ps_c2 ok hf (by omega)) he (ih _ n _ _ (ps_c1 ok hf (by omega)) he hv a ha) o h
    · rw [ps_ev11 c, ps_sq] at ho
      split at ho
      · rcases List.mem_append.mp ho with h | h
        · exact ih _ n _ _ (ps_c1 ok hf (by omega)) he hv o h
        · exact ih _ n _ _ (ps_c2 ok hf (by omega)) he hv o h
      · exact ih _ n _ _ (ps_c1 ok hf (by omega)) he hv o ho
    · rw [ps_ev12 c, ps_alt] at ho
      split at ho
      · exact ih _ n _ _ (ps_c2 ok hf (by omega)) he hv o ho
      · obtain ⟨a, ha, h⟩ := ps_bnd_mem ho
        unfold ps_nz at h
        dsimp only at h
        split at h
        · cases h
        · rw [List.mem_singleton.mp h]; exact ih _ n _ _ (ps_c1 ok hf (by omega)) he hv a ha
    · rw [ps_ev13 c] at ho
      obtain ⟨a, ha, h⟩ := ps_bnd_mem ho
      have hav := ih _ n _ _ (ps_c1 ok hf (by omega)) he hv a ha
      exact ih _ n _ _ (ps_c2 ok hf (by omega)) (aw_e_c he ⟨(show (13 : Nat) ≤ 17 by decide), (fun z => by cases z), (fun _ => aw_v_bv hav), (fun z => by cases z)⟩) hv o h
    · rw [ps_ev14 c] at ho
      exact ih _ n _ _ (ps_c1 ok hf (by omega)) (aw_e_c he ⟨(show (14 : Nat) ≤ 17 by decide), (fun _ => ⟨pg_2 p f, ps_c2 ok hf (by omega), rfl⟩), (fun z => by cases z), (fun z => by cases z)⟩) hv o ho
    · rw [ps_ev15 c] at ho
      obtain ⟨a, ha, h⟩ := ps_bnd_mem ho
      obtain ⟨q, hq, rfl⟩ := List.mem_map.mp h
      exact aw_v_0
    · rw [ps_ev17 c] at ho
      obtain ⟨a, ha, h⟩ := ps_bnd_mem ho
      refine ih _ n _ _ ?_ he hv o h
      split
      · exact ps_c3 ok hf c
      · exact ps_c2 ok hf (by omega)
theorem ps_ev_len (ok : ps_ok p iw T) : ∀ (N f : Nat) (e : PE) (v : PV), f < T → ps_eok T e → iw f (ps_pe iw e) ≤ 24 → (ps_ev p N f e v).1.length ≤ tb_O (iw f (ps_pe iw e)) := by
  intro N
  induction N with
  | zero => intro f e v _ _ _; exact Nat.zero_le _
  | succ N ih =>
    intro f e v hf he hw
    have hp := ps_iw_pos (q := ps_pe iw e) ok hf
    have h0 := (tb_c0 _ (Nat.lt_succ_of_le hw) hp).1
    rcases ps_kinds (ok.2 f hf).1 with c | c | c | c | c | c | c | c | c | c | c | c | c | c | c | c | c
    · rw [ps_ev0 c]; exact h0
    · rw [ps_ev1 c]; exact Nat.le_trans (ps_key_1 _ _) h0
    · rw [ps_ev2 c, ps_iw2 ok hf c]
      show (ps_each p v).length ≤ 3
      unfold ps_each
      repeat' split
      · exact Nat.zero_le _
      · exact Nat.zero_le _
      · exact ps_chs_len
    · rw [ps_ev3 c]; exact h0
    · rw [ps_ev4 c]; exact h0
    · rw [ps_ev5 c]; exact Nat.zero_le _
    · rw [ps_ev6 c]
      cases hx : ps_fd 14 (-1) e with
      | nil => exact Nat.zero_le _
      | cons x e' =>
        have h1 := ps_fd_cons (iw := iw) hx he
        have h2 := ps_iw6 (q := ps_pe iw e) ok hf c
        rw [h1.1] at h2
        have h3 := ps_iw_pos (q := ps_pe iw e') ok h1.2.2
        rw [h1.1, h2] at hw
        rw [h1.1, h2]
        refine Nat.le_trans (ih x.2.1.toNatClampNeg e' v h1.2.2 h1.2.1 (by omega)) ?_
        rw [Nat.add_comm]; exact (tb_c1 _ (by omega) h3).1
    · rw [ps_ev7 c]; exact Nat.zero_le _
    · rw [ps_ev8 c]
      have h2 := ps_iw8 (q := ps_pe iw e) ok hf (Or.inl c)
      have h3 := ps_iw_pos (q := ps_pe iw e) ok (ps_c1 ok hf (by omega))
      have q := ih (pg_1 p f) e v (ps_c1 ok hf (by omega)) he (by omega)
      have r := ps_bnd_len (z := (ps_ev p N (pg_1 p f) e v).2) (g := fun o => (ps_key (ps_num p o) v, none)) (B := 1) (fun a => ps_key_1 _ _) (as := (ps_ev p N (pg_1 p f) e v).1)
      have s := (tb_c1 _ (show iw (pg_1 p f) (ps_pe iw e) < 24 by omega) h3).1
      rw [h2, Nat.add_comm 1]; omega
    · rw [ps_ev9 c]
      have h2 := ps_iw8 (q := ps_pe iw e) ok hf (Or.inr c)
      have h3 := ps_iw_pos (q := ps_pe iw e) ok (ps_c1 ok hf (by omega))
      have q := ih (pg_1 p f) ((9, nI f, 0, 0, 0) :: e) v (ps_c1 ok hf (by omega)) (by
        intro x hx h14
        rcases List.mem_cons.mp hx with rfl | hx
        · cases h14
        · exact he x hx h14) (by rw [ps_pe, if_neg (by intro z; cases z)]; omega)
      rw [ps_pe, if_neg (by intro z; cases z)] at q
      have s := (tb_c1 _ (show iw (pg_1 p f) (ps_pe iw e) < 24 by omega) h3).1
      rw [h2, Nat.add_comm 1]; exact Nat.le_trans q s
    · rw [ps_ev10 c]
      have h2 := ps_iw10 (q := ps_pe iw e) ok hf (by omega) (by omega) (by omega)
      have h3 := ps_iw_pos (q := ps_pe iw e) ok (ps_c1 ok hf (by omega))
      have h4 := ps_iw_pos (q := ps_pe iw e) ok (ps_c2 ok hf (by omega))
      have q := ih (pg_1 p f) e v (ps_c1 ok hf (by omega)) he (by omega)
      have r := ps_bnd_len (z := (ps_ev p N (pg_1 p f) e v).2) (g := fun o => ps_ev p N (pg_2 p f) e o) (fun a => ih (pg_2 p f) e a (ps_c2 ok hf (by omega)) he (by omega)) (as := (ps_ev p N (pg_1 p f) e v).1)
      have s := tb_c2 _ (show iw (pg_1 p f) (ps_pe iw e) < 25 by omega) _ (show iw (pg_2 p f) (ps_pe iw e) < 25 by omega) h3 h4 (by omega)
      rw [h2, Nat.add_assoc, Nat.add_comm 1]
      exact Nat.le_trans (Nat.le_trans r (Nat.mul_le_mul_right _ q)) s.1
    · rw [ps_ev11 c]
      have h2 := ps_iw10 (q := ps_pe iw e) ok hf (by omega) (by omega) (by omega)
      have h3 := ps_iw_pos (q := ps_pe iw e) ok (ps_c1 ok hf (by omega))
      have h4 := ps_iw_pos (q := ps_pe iw e) ok (ps_c2 ok hf (by omega))
      have q := ih (pg_1 p f) e v (ps_c1 ok hf (by omega)) he (by omega)
      have r := ih (pg_2 p f) e v (ps_c2 ok hf (by omega)) he (by omega)
      have t := ps_sq_len (r := ps_ev p N (pg_1 p f) e v) (s := ps_ev p N (pg_2 p f) e v)
      have s := tb_c2 _ (show iw (pg_1 p f) (ps_pe iw e) < 25 by omega) _ (show iw (pg_2 p f) (ps_pe iw e) < 25 by omega) h3 h4 (by omega)
      rw [h2, Nat.add_assoc, Nat.add_comm 1]; omega
    · rw [ps_ev12 c]
      have h2 := ps_iw10 (q := ps_pe iw e) ok hf (by omega) (by omega) (by omega)
      have h3 := ps_iw_pos (q := ps_pe iw e) ok (ps_c1 ok hf (by omega))
      have h4 := ps_iw_pos (q := ps_pe iw e) ok (ps_c2 ok hf (by omega))
      have q := ih (pg_1 p f) e v (ps_c1 ok hf (by omega)) he (by omega)
      have r := ih (pg_2 p f) e v (ps_c2 ok hf (by omega)) he (by omega)
      have t := ps_bnd_len (z := (ps_ev p N (pg_1 p f) e v).2) (g := ps_nz p) (B := 1) (fun a => by unfold ps_nz; dsimp only; split <;> simp) (as := (ps_ev p N (pg_1 p f) e v).1)
      have s := tb_c2 _ (show iw (pg_1 p f) (ps_pe iw e) < 25 by omega) _ (show iw (pg_2 p f) (ps_pe iw e) < 25 by omega) h3 h4 (by omega)
      rw [h2, Nat.add_assoc, Nat.add_comm 1, ps_alt]
      split <;> omega
    · rw [ps_ev13 c]
      have h2 := ps_iw10 (q := ps_pe iw e) ok hf (by omega) (by omega) (by omega)
      have h3 := ps_iw_pos (q := ps_pe iw e) ok (ps_c1 ok hf (by omega))
      have h4 := ps_iw_pos (q := ps_pe iw e) ok (ps_c2 ok hf (by omega))
      have q := ih (pg_1 p f) e v (ps_c1 ok hf (by omega)) he (by omega)
      have r := ps_bnd_len (z := (ps_ev p N (pg_1 p f) e v).2) (g := fun o => ps_ev p N (pg_2 p f) ((13, pg_a p f, (ps_bv o).1, (ps_bv o).2, 0) :: e) v) (B := tb_O (iw (pg_2 p f) (ps_pe iw e))) (fun a => by
        have q2 := ih (pg_2 p f) ((13, pg_a p f, (ps_bv a).1, (ps_bv a).2, 0) :: e) v (ps_c2 ok hf (by omega)) (by
          intro x hx h14
          rcases List.mem_cons.mp hx with rfl | hx
          · cases h14
          · exact he x hx h14) (by rw [ps_pe, if_neg (by intro z; cases z)]; omega)
        rw [ps_pe, if_neg (by intro z; cases z)] at q2
        exact q2) (as := (ps_ev p N (pg_1 p f) e v).1)
      have s := tb_c2 _ (show iw (pg_1 p f) (ps_pe iw e) < 25 by omega) _ (show iw (pg_2 p f) (ps_pe iw e) < 25 by omega) h3 h4 (by omega)
      rw [h2, Nat.add_assoc, Nat.add_comm 1]
      exact Nat.le_trans (Nat.le_trans r (Nat.mul_le_mul_right _ q)) s.1
    · rw [ps_ev14 c]
      have h2 := ps_iw14 (q := ps_pe iw e) ok hf c
      have h5 := ps_c2 ok hf (by omega : 10 ≤ pg_k p f)
      have h32 := ok.1
      have hcl : (nI (pg_2 p f)).toNatClampNeg = pg_2 p f := nI_clamp (by omega)
      have h3 := ps_iw_pos (q := iw (pg_2 p f) (ps_pe iw e)) ok (ps_c1 ok hf (by omega))
      have q := ih (pg_1 p f) ((14, nI (pg_2 p f), 0, 0, 0) :: e) v (ps_c1 ok hf (by omega)) (by
        intro x hx h14
        rcases List.mem_cons.mp hx with rfl | hx
        · show (nI (pg_2 p f)).toNatClampNeg < T
          rw [hcl]; exact h5
        · exact he x hx h14) (by rw [ps_pe, if_pos rfl]; dsimp only; rw [hcl]; omega)
      rw [ps_pe, if_pos rfl] at q
      dsimp only at q
      rw [hcl] at q
      have s := (tb_c1 _ (show iw (pg_1 p f) (iw (pg_2 p f) (ps_pe iw e)) < 24 by omega) h3).1
      rw [h2, Nat.add_comm 1]; exact Nat.le_trans q s
    · rw [ps_ev15 c]
      have h2 := ps_iw10 (q := ps_pe iw e) ok hf (by omega) (by omega) (by omega)
      have h3 := ps_iw_pos (q := ps_pe iw e) ok (ps_c1 ok hf (by omega))
      have h4 := ps_iw_pos (q := ps_pe iw e) ok (ps_c2 ok hf (by omega))
      have q := ih (pg_1 p f) e v (ps_c1 ok hf (by omega)) he (by omega)
      have q2 := ih (pg_2 p f) e v (ps_c2 ok hf (by omega)) he (by omega)
      have r := ps_bnd_len (z := (ps_ev p N (pg_1 p f) e v).2) (g := fun o => ((ps_ev p N (pg_2 p f) e v).1.map (fun q => ps_cmb (pg_k p f) (ps_num p o) (ps_num p q)), (ps_ev p N (pg_2 p f) e v).2)) (B := tb_O (iw (pg_2 p f) (ps_pe iw e))) (fun a => by rw [List.length_map]; exact q2) (as := (ps_ev p N (pg_1 p f) e v).1)
      have s := tb_c2 _ (show iw (pg_1 p f) (ps_pe iw e) < 25 by omega) _ (show iw (pg_2 p f) (ps_pe iw e) < 25 by omega) h3 h4 (by omega)
      rw [h2, Nat.add_assoc, Nat.add_comm 1]
      exact Nat.le_trans (Nat.le_trans r (Nat.mul_le_mul_right _ q)) s.1
    · rw [ps_ev17 c]
      have h2 := ps_iw17 (q := ps_pe iw e) ok hf c
      have h3 := ps_iw_pos (q := ps_pe iw e) ok (ps_c1 ok hf (by omega))
      have h4 := ps_iw_pos (q := ps_pe iw e) ok (ps_c2 ok hf (by omega))
      have h5 := ps_iw_pos (q := ps_pe iw e) ok (ps_c3 ok hf c)
      have q := ih (pg_1 p f) e v (ps_c1 ok hf (by omega)) he (by omega)
      have m1 := (tb_m h4 (show iw (pg_2 p f) (ps_pe iw e) ≤ iw (pg_2 p f) (ps_pe iw e) + iw (pg_3 p f) (ps_pe iw e) by omega) (by omega)).1
      have m2 := (tb_m h5 (show iw (pg_3 p f) (ps_pe iw e) ≤ iw (pg_2 p f) (ps_pe iw e) + iw (pg_3 p f) (ps_pe iw e) by omega) (by omega)).1
      have r := ps_bnd_len (z := (ps_ev p N (pg_1 p f) e v).2) (g := fun o => ps_ev p N (if ps_num p o = 0 then pg_3 p f else pg_2 p f) e v) (B := tb_O (iw (pg_2 p f) (ps_pe iw e) + iw (pg_3 p f) (ps_pe iw e))) (fun a => by
        split
        · exact Nat.le_trans (ih (pg_3 p f) e v (ps_c3 ok hf c) he (by omega)) m2
        · exact Nat.le_trans (ih (pg_2 p f) e v (ps_c2 ok hf (by omega)) he (by omega)) m1) (as := (ps_ev p N (pg_1 p f) e v).1)
      have s := tb_c2 _ (show iw (pg_1 p f) (ps_pe iw e) < 25 by omega) _ (show iw (pg_2 p f) (ps_pe iw e) + iw (pg_3 p f) (ps_pe iw e) < 25 by omega) h3 (by omega) (by omega)
      rw [h2, show 1 + iw (pg_1 p f) (ps_pe iw e) + iw (pg_2 p f) (ps_pe iw e) + iw (pg_3 p f) (ps_pe iw e) = iw (pg_1 p f) (ps_pe iw e) + (iw (pg_2 p f) (ps_pe iw e) + iw (pg_3 p f) (ps_pe iw e)) + 1 by omega]
      exact Nat.le_trans (Nat.le_trans r (Nat.mul_le_mul_right _ q)) s.1
end
end
section
/-! ===== the reference's evaluation: frames, lists, environments ===== -/
abbrev YM : Type := Int32 × Int32 × Int32 × (Nat → Int32) × (Nat → Int32) × (Nat → Int32) × (Nat → Int32) × (Nat → Int32) × (Nat → Int32) × (Nat → Int32) × (Nat → Int32) × (Nat → Int32) × (Nat → Int32) × (Nat → Int32) × (Nat → Int32) × (Nat → Int32)
def y_cu (s : YM) : Int32 := s.1
def y_de (s : YM) : Int32 := s.2.1
def y_br (s : YM) : Int32 := s.2.2.1
def y_fi (s : YM) : Nat → Int32 := s.2.2.2.1
def y_ev (s : YM) : Nat → Int32 := s.2.2.2.2.1
def y_it (s : YM) : Nat → Int32 := s.2.2.2.2.2.1
def y_iv (s : YM) : Nat → Int32 := s.2.2.2.2.2.2.1
def y_ph (s : YM) : Nat → Int32 := s.2.2.2.2.2.2.2.1
def y_fr (s : YM) : Nat → Int32 := s.2.2.2.2.2.2.2.2.1
def y_mi (s : YM) : Nat → Int32 := s.2.2.2.2.2.2.2.2.2.1
def y_aT (s : YM) : Nat → Int32 := s.2.2.2.2.2.2.2.2.2.2.1
def y_ed (s : YM) : Nat → Int32 := s.2.2.2.2.2.2.2.2.2.2.2.1
def y_bt (s : YM) : Nat → Int32 := s.2.2.2.2.2.2.2.2.2.2.2.2.1
def y_bv (s : YM) : Nat → Int32 := s.2.2.2.2.2.2.2.2.2.2.2.2.2.1
def y_oT (s : YM) : Nat → Int32 := s.2.2.2.2.2.2.2.2.2.2.2.2.2.2.1
def y_oV (s : YM) : Nat → Int32 := s.2.2.2.2.2.2.2.2.2.2.2.2.2.2.2
/-- the head of a chain of frames -/
def yr_h : List Nat → Int32
  | [] => -1
  | r :: _ => nI r
def yr_lf : List Nat → Nat → Nat
  | [], _ => 0
  | r :: rs, l => if l = rs.length + 1 then r else yr_lf rs l
def yr_z (rs : List Nat) : Option Nat → Int32
  | none => 98
  | some l => if l = 0 then 99 else nI (yr_lf rs l)
/-- the frames rs hold the environment e -/
def yr_e (p : PG) (T : Nat) (fi ev bt bv : Nat → Int32) : PE → List Nat → Prop
  | [], [] => True
  | x :: e, r :: rs => ∃ f, f < T ∧ fi r = nI f ∧ pg_k p f = x.1 ∧ (x.1 = 9 ∨ x.1 = 13 ∨ x.1 = 14) ∧ (x.1 = 13 → pg_a p f = x.2.1 ∧ bt r = x.2.2.1 ∧ bv r = x.2.2.2.1) ∧ (x.1 = 14 → x.2.1 = nI (pg_2 p f)) ∧ ev r = yr_h rs ∧ (∀ r', r' ∈ rs → r' < r) ∧ yr_e p T fi ev bt bv e rs
  | _, _ => False
def yr_sg (oT oV : Nat → Int32) : Nat → List PV → Prop
  | _, [] => True
  | n, o :: os => oT n = o.1 ∧ oV n = o.2 ∧ yr_sg oT oV (n + 1) os
def yr_fr (d : Nat) (s s' : YM) : Prop := ∀ j, j < d → y_fi s' j = y_fi s j ∧ y_ev s' j = y_ev s j ∧ y_it s' j = y_it s j ∧ y_iv s' j = y_iv s j ∧ y_ph s' j = y_ph s j ∧ y_fr s' j = y_fr s j ∧ y_mi s' j = y_mi s j ∧ y_aT s' j = y_aT s j ∧ y_ed s' j = y_ed s j ∧ y_bt s' j = y_bt s j ∧ y_bv s' j = y_bv s j
def yr_ou (n : Nat) (s s' : YM) : Prop := ∀ j, j < n → y_oT s' j = y_oT s j ∧ y_oV s' j = y_oV s j
/-- what an evaluation leaves -/
def yr_R (d cnt : Nat) (l : List PV) (z : Int32) (s s' : YM) : Prop := y_de s' = nI d - 1 ∧ y_cu s' = nI (cnt + l.length) ∧ y_br s' = z ∧ yr_fr d s s' ∧ y_fr s' d = nI cnt ∧ yr_sg (y_oT s') (y_oV s') cnt l ∧ yr_ou cnt s s'
def yr_F (s : YM) (d f : Nat) (rs : List Nat) (v : PV) (cnt : Nat) : Prop := y_fi s d = nI f ∧ y_ev s d = yr_h rs ∧ y_it s d = v.1 ∧ y_iv s d = v.2 ∧ y_fr s d = nI cnt
/-- the reference's tokens are the program's -/
def yr_p (p : PG) (T : Nat) (yk ya y1 y2 : Nat → Int32) : Prop := ∀ i, i < T → yk i = nI (pg_k p i) ∧ ya i = pg_a p i ∧ (8 ≤ pg_k p i → y1 i = nI (pg_1 p i)) ∧ (10 ≤ pg_k p i → y2 i = nI (pg_2 p i)) ∧ (pg_k p i = 17 → pg_3 p i + 1 = i)
/-- arguments are as the tokens' kinds ask -/
def ps_ar (p : PG) (T : Nat) : Prop := ∀ i, i < T → (pg_k p i = 1 → ¬ pg_a p i < 0 ∧ ¬ 2 < pg_a p i) ∧ (pg_k p i = 4 → ¬ pg_a p i < 0) ∧ (pg_k p i = 6 ∨ pg_k p i = 7 ∨ pg_k p i = 9 ∨ pg_k p i = 14 → pg_a p i = 0)
theorem yr_fr_rf {d : Nat} {s : YM} : yr_fr d s s := fun _ _ => ⟨rfl, rfl, rfl, rfl, rfl, rfl, rfl, rfl, rfl, rfl, rfl⟩
theorem yr_fr_tr {d : Nat} {a b c : YM} (h : yr_fr d a b) (k : yr_fr d b c) : yr_fr d a c := fun j hj => by
  obtain ⟨h1, h2, h3, h4, h5, h6, h7, h8, h9, h10, h11⟩ := h j hj
  obtain ⟨k1, k2, k3, k4, k5, k6, k7, k8, k9, k10, k11⟩ := k j hj
  exact ⟨k1.trans h1, k2.trans h2, k3.trans h3, k4.trans h4, k5.trans h5, k6.trans h6, k7.trans h7, k8.trans h8, k9.trans h9, k10.trans h10, k11.trans h11⟩
theorem yr_fr_mono {d d' : Nat} {a b : YM} (h : yr_fr d a b) (hd : d' ≤ d) : yr_fr d' a b := fun j hj => h j (by omega)
theorem yr_ou_tr {n : Nat} {a b c : YM} (h : yr_ou n a b) (k : yr_ou n b c) : yr_ou n a c := fun j hj => ⟨(k j hj).1.trans (h j hj).1, (k j hj).2.trans (h j hj).2⟩
theorem yr_ou_mono {n n' : Nat} {a b : YM} (h : yr_ou n a b) (hd : n' ≤ n) : yr_ou n' a b := fun j hj => h j (by omega)
theorem yr_ou_rf {n : Nat} {a : YM} : yr_ou n a a := fun _ _ => ⟨rfl, rfl⟩
theorem yr_F_fr {s s' : YM} {d d' f cnt : Nat} {rs : List Nat} {v : PV} (h : yr_F s d f rs v cnt) (k : yr_fr d' s s') (hd : d < d') : yr_F s' d f rs v cnt := by
  obtain ⟨h1, h2, h3, h4, h5⟩ := h
  obtain ⟨k1, k2, k3, k4, k5, k6, k7, k8, k9, k10, k11⟩ := k d hd
  exact ⟨k1.trans h1, k2.trans h2, k3.trans h3, k4.trans h4, k6.trans h5⟩
theorem yr_e_ag {p : PG} {T d : Nat} {fi ev bt bv fi' ev' bt' bv' : Nat → Int32} (h : ∀ j, j < d → fi' j = fi j ∧ ev' j = ev j ∧ bt' j = bt j ∧ bv' j = bv j) : ∀ {e : PE} {rs : List Nat}, (∀ r, r ∈ rs → r < d) → yr_e p T fi ev bt bv e rs → yr_e p T fi' ev' bt' bv' e rs
  | [], [], _, _ => trivial
  | [], _ :: _, _, r => r.elim
  | _ :: _, [], _, r => r.elim
  | x :: e, r :: rs, hd, ⟨f, h0, h1, h2, h3, h4, h5, h6, h7, h8⟩ => by
    obtain ⟨q1, q2, q3, q4⟩ := h r (hd r List.mem_cons_self)
    exact ⟨f, h0, q1.trans h1, h2, h3, fun z => ⟨(h4 z).1, q3.trans (h4 z).2.1, q4.trans (h4 z).2.2⟩, h5, q2.trans h6, h7, yr_e_ag h (fun z hz => hd z (List.mem_cons_of_mem _ hz)) h8⟩
theorem yr_e_fr {p : PG} {T d : Nat} {s s' : YM} {e : PE} {rs : List Nat} (k : yr_fr d s s') (hd : ∀ r, r ∈ rs → r < d) (h : yr_e p T (y_fi s) (y_ev s) (y_bt s) (y_bv s) e rs) : yr_e p T (y_fi s') (y_ev s') (y_bt s') (y_bv s') e rs :=
  yr_e_ag (fun j hj => ⟨(k j hj).1, (k j hj).2.1, (k j hj).2.2.2.2.2.2.2.2.2.1, (k j hj).2.2.2.2.2.2.2.2.2.2⟩) hd h
theorem yr_e_len {p : PG} {T : Nat} {fi ev bt bv : Nat → Int32} : ∀ {e : PE} {rs : List Nat}, yr_e p T fi ev bt bv e rs → rs.length = e.length
  | [], [], _ => rfl
  | [], _ :: _, r => r.elim
  | _ :: _, [], r => r.elim
  | x :: e, r :: rs, ⟨f, h0, h1, h2, h3, h4, h5, h6, h7, h8⟩ => by rw [List.length_cons, List.length_cons, yr_e_len h8]
theorem yr_e_dec {p : PG} {T : Nat} {fi ev bt bv : Nat → Int32} : ∀ {e : PE} {rs : List Nat} {d : Nat}, yr_e p T fi ev bt bv e rs → (∀ r, r ∈ rs → r < d) → rs.length ≤ d
  | [], [], _, _, _ => Nat.zero_le _
  | [], _ :: _, _, r, _ => r.elim
  | _ :: _, [], _, r, _ => r.elim
  | x :: e, r :: rs, d, ⟨f, h0, h1, h2, h3, h4, h5, h6, h7, h8⟩, hd => by
    have := yr_e_dec h8 h7
    have := hd r List.mem_cons_self
    rw [List.length_cons]; omega
theorem yr_z_c {r l : Nat} {rs : List Nat} (h : l ≤ rs.length) : yr_z (r :: rs) (some l) = yr_z rs (some l) := by
  rw [yr_z, yr_z, yr_lf, if_neg (show ¬ l = rs.length + 1 by omega)]
theorem yr_lf_app {r : Nat} {rs : List Nat} : ∀ {l : List Nat}, yr_lf (l ++ r :: rs) (rs.length + 1) = r
  | [] => by show yr_lf (r :: rs) _ = r; rw [yr_lf, if_pos rfl]
  | y :: l => by
    show yr_lf (y :: (l ++ r :: rs)) _ = r
    rw [yr_lf, if_neg (by simp; omega)]; exact yr_lf_app
theorem yr_z_app {m : Nat} {rs : List Nat} (hm : m ≤ rs.length) : ∀ {l : List Nat}, yr_z (l ++ rs) (some m) = yr_z rs (some m)
  | [] => rfl
  | y :: l => by
    show yr_z (y :: (l ++ rs)) _ = _
    rw [yr_z_c (by rw [List.length_append]; omega), yr_z_app hm]
theorem yr_lf_mem : ∀ {rs : List Nat} {l : Nat}, 1 ≤ l → l ≤ rs.length → yr_lf rs l ∈ rs
  | [], l, h1, h2 => by simp at h2; omega
  | r :: rs, l, h1, h2 => by
    rw [yr_lf]; split
    · exact List.mem_cons_self
    · rw [List.length_cons] at h2
      exact List.mem_cons_of_mem _ (yr_lf_mem h1 (by omega))
/-! lists in the reference's buffer -/
theorem yr_sg_app {oT oV : Nat → Int32} : ∀ {a b : List PV} {n : Nat}, yr_sg oT oV n (a ++ b) ↔ yr_sg oT oV n a ∧ yr_sg oT oV (n + a.length) b
  | [], b, n => ⟨fun h => ⟨trivial, h⟩, fun h => h.2⟩
  | o :: a, b, n => by
    show (_ ∧ _ ∧ yr_sg oT oV (n + 1) (a ++ b)) ↔ (_ ∧ _ ∧ yr_sg oT oV (n + 1) a) ∧ _
    rw [yr_sg_app, List.length_cons, show n + (a.length + 1) = n + 1 + a.length by omega]
    constructor
    · rintro ⟨h1, h2, h3, h4⟩; exact ⟨⟨h1, h2, h3⟩, h4⟩
    · rintro ⟨⟨h1, h2, h3⟩, h4⟩; exact ⟨h1, h2, h3, h4⟩
theorem yr_sg_ag {oT oV oT' oV' : Nat → Int32} : ∀ {l : List PV} {n : Nat}, (∀ j, n ≤ j → j < n + l.length → oT' j = oT j ∧ oV' j = oV j) → yr_sg oT oV n l → yr_sg oT' oV' n l
  | [], _, _, _ => trivial
  | o :: l, n, h, ⟨h1, h2, h3⟩ => by
    rw [List.length_cons] at h
    have q := h n (Nat.le_refl _) (by omega)
    exact ⟨q.1.trans h1, q.2.trans h2, yr_sg_ag (fun j hj hj' => h j (by omega) (by omega)) h3⟩
theorem yr_sg_get {oT oV : Nat → Int32} {o : PV} : ∀ {a b : List PV} {n : Nat}, yr_sg oT oV n (a ++ o :: b) → oT (n + a.length) = o.1 ∧ oV (n + a.length) = o.2 := by
  intro a b n h
  have := (yr_sg_app.mp h).2
  exact ⟨this.1, this.2.1⟩
end
section
def yr_pT (a : Nat → Int32) (n : Nat) : List PV → Nat → Int32
  | [] => a
  | o :: os => yr_pT (upd a n o.1) (n + 1) os
def yr_pV (a : Nat → Int32) (n : Nat) : List PV → Nat → Int32
  | [] => a
  | o :: os => yr_pV (upd a n o.2) (n + 1) os
theorem yr_pT_lo {j : Nat} : ∀ {l : List PV} {a : Nat → Int32} {n : Nat}, j < n → yr_pT a n l j = a j
  | [], _, _, _ => rfl
  | o :: l, a, n, h => by rw [yr_pT, yr_pT_lo (by omega)]; exact pb_u h
theorem yr_pV_lo {j : Nat} : ∀ {l : List PV} {a : Nat → Int32} {n : Nat}, j < n → yr_pV a n l j = a j
  | [], _, _, _ => rfl
  | o :: l, a, n, h => by rw [yr_pV, yr_pV_lo (by omega)]; exact pb_u h
theorem yr_p_sg : ∀ {l : List PV} {a b : Nat → Int32} {n : Nat}, yr_sg (yr_pT a n l) (yr_pV b n l) n l
  | [], _, _, _ => trivial
  | o :: l, a, b, n => ⟨by rw [yr_pT, yr_pT_lo (by omega)]; exact pk_us, by rw [yr_pV, yr_pV_lo (by omega)]; exact pk_us, by rw [yr_pT, yr_pV]; exact yr_p_sg⟩
section
variable {p : PG} {iw : Nat → Nat → Nat} {T : Nat} {post : SY → Prop} {li to mo gi ut uv hgh cu de br : Int32} {th ot nm on yk ya yh yo yr y1 y2 fi ev it iv ph fr mi aT ed bt bv oT oV pa : Nat → Int32}
theorem yq_enter {d : Nat} {a b c w : Int32} (hd : d < 62) (H : post (li, to, mo, gi, ut, uv, hgh, cu, nI (d + 1), br, th, ot, nm, on, yk, ya, yh, yo, yr, y1, y2, upd fi (d + 1) a, upd ev (d + 1) b, upd it (d + 1) c, upd iv (d + 1) w, upd ph (d + 1) 0, upd fr (d + 1) cu, mi, aT, ed, bt, bv, oT, oV, pa)) : wpY_enter post (li, to, mo, gi, ut, uv, hgh, cu, nI d, br, th, ot, nm, on, yk, ya, yh, yo, yr, y1, y2, fi, ev, it, iv, ph, fr, mi, aT, ed, bt, bv, oT, oV, pa) a b c w := by
  have cl : (nI (d + 1)).toNatClampNeg = d + 1 := nI_clamp (by omega)
  have hi : vp_in (nI (d + 1)) 64 := vp_in_nI (by omega) (by omega)
  refine br_f (nI_ge (b := 62) hd (by decide)) (nm_r (nI_1 d) ⟨hi, nm_r (congrArg (fun z => upd fi z a) cl) ⟨hi, nm_r (congrArg (fun z => upd ev z b) cl) ⟨hi, nm_r (congrArg (fun z => upd it z c) cl) ⟨hi, nm_r (congrArg (fun z => upd iv z w) cl) ⟨hi, nm_r (congrArg (fun z => upd ph z 0) cl) ⟨hi, nm_r (congrArg (fun z => upd fr z cu) cl) H⟩⟩⟩⟩⟩⟩)
theorem yq_emit {n : Nat} {a b : Int32} (hn : n < 8192) (H : post (li, to, mo, gi, ut, uv, hgh, nI (n + 1), de, br, th, ot, nm, on, yk, ya, yh, yo, yr, y1, y2, fi, ev, it, iv, ph, fr, mi, aT, ed, bt, bv, upd oT n a, upd oV n b, pa)) : wpY_emit post (li, to, mo, gi, ut, uv, hgh, nI n, de, br, th, ot, nm, on, yk, ya, yh, yo, yr, y1, y2, fi, ev, it, iv, ph, fr, mi, aT, ed, bt, bv, oT, oV, pa) a b := by
  have cl : (nI n).toNatClampNeg = n := nI_clamp (by omega)
  have hi : vp_in (nI n) 8192 := vp_in_nI (by omega) (by omega)
  exact br_f (nI_ge (b := 8192) hn (by decide)) ⟨hi, nm_r (congrArg (fun z => upd oT z a) cl) ⟨hi, nm_r (congrArg (fun z => upd oV z b) cl) (nm_r (nI_1 n) H)⟩⟩
theorem yq_numAt {post : Int32 → Prop} {i : Nat} {o : PV} (hi : i < 8192) (h1 : oT i = o.1) (h2 : oV i = o.2) (ho : aw_v o) (hN : nm = pg_n p) (H : post (ps_num p o)) : wpY_numAt post (li, to, mo, gi, ut, uv, hgh, cu, de, br, th, ot, nm, on, yk, ya, yh, yo, yr, y1, y2, fi, ev, it, iv, ph, fr, mi, aT, ed, bt, bv, oT, oV, pa) (nI i) := by
  have cl : (nI i).toNatClampNeg = i := nI_clamp (by omega)
  have hv : vp_in (nI i) 8192 := vp_in_nI (by omega) (by omega)
  refine ⟨hv, br_c (fun hz => ⟨hv, ?_⟩) (fun hz => ⟨hv, ?_, ?_⟩)⟩
  · rw [cl, h1] at hz
    rw [ps_num, if_pos hz] at H
    rw [cl, h2]; exact H
  · rw [cl, h1] at hz
    obtain ⟨j, hj, ej⟩ := ho.2 hz
    rw [cl, h2, ej]; exact vp_in_nI hj (by omega)
  · rw [cl, h1] at hz
    rw [ps_num, if_neg hz, ← hN] at H
    rw [cl, h2]; exact H
theorem yq_key {d n : Nat} {v : PV} {k : Int32} (hd : d < 64) (hn : n < 8192) (h1 : it d = v.1) (h2 : iv d = v.2) (hk : ¬ k < 0) (hk2 : ¬ 2 < k) (H : post (li, to, mo, gi, ut, uv, hgh, nI (n + (ps_key k v).length), de, br, th, ot, nm, on, yk, ya, yh, yo, yr, y1, y2, fi, ev, it, iv, ph, fr, mi, aT, ed, bt, bv, yr_pT oT n (ps_key k v), yr_pV oV n (ps_key k v), pa)) : wpY_key post (li, to, mo, gi, ut, uv, hgh, nI n, de, br, th, ot, nm, on, yk, ya, yh, yo, yr, y1, y2, fi, ev, it, iv, ph, fr, mi, aT, ed, bt, bv, oT, oV, pa) (nI d) k := by
  have cl : (nI d).toNatClampNeg = d := nI_clamp (by omega)
  have hi : vp_in (nI d) 64 := vp_in_nI (by omega) (by omega)
  unfold ps_key at H
  rw [if_neg hk, if_neg hk2] at H
  refine ⟨hi, br_c (fun hz => ?_) (fun hz => ⟨hi, br_c (fun hw => ?_) (fun hw => ⟨hi, hi, ?_⟩)⟩)⟩
  · rw [cl, h1] at hz
    rw [if_pos hz] at H; exact H
  · rw [cl, h1] at hz
    rw [cl, h2] at hw
    rw [if_neg hz, if_neg (Int32.not_le.mpr hw)] at H; exact H
  · rw [cl, h1] at hz
    rw [cl, h2] at hw
    rw [if_neg hz, if_pos (Int32.not_lt.mp hw)] at H
    rw [cl, h1, h2]
    exact yq_emit hn H
theorem yq_newest {K : Nat} {x2 s : Int32} (hT : T ≤ 32) (yp : yr_p p T yk ya y1 y2) (ar : ps_ar p T) (hK : K = 13 ∨ K = 9 ∨ K = 14) : ∀ {e : PE} {rs : List Nat}, yr_e p T fi ev bt bv e rs → (∀ r, r ∈ rs → r < 64) → ∃ l rs', rs = l ++ rs' ∧ ((K = 13 ∧ s = x2 ∧ ¬ s < 0) ∨ (K ≠ 13 ∧ s = -1 ∧ x2 = 0) → yr_e p T fi ev bt bv (ps_fd K s e) rs') ∧ ∀ (post : Int32 → Prop), post (yr_h rs') → ∀ n i, rs.length < n → i + rs.length < 64 → wY_newest_6 post (nI K) x2 li to mo gi ut uv hgh cu de br th ot nm on yk ya yh yo yr y1 y2 fi ev it iv ph fr mi aT ed bt bv oT oV pa n (yr_h rs) (nI i)
  | [], [], _, _ => ⟨[], [], rfl, fun _ => trivial, fun post hp n i hn hi => by
      obtain ⟨n, rfl⟩ : ∃ m, n = m + 1 := ⟨n - 1, by omega⟩
      exact br_f (nI_ge (b := 64) (by simp at hi; omega) (by decide)) (br_t (show (-1 : Int32) < 0 by decide) hp)⟩
  | [], _ :: _, r, _ => r.elim
  | _ :: _, [], r, _ => r.elim
  | x :: e, r :: rs, R, hr => by
    obtain ⟨f, h0, h1, h2, h3, h4, h5, h6, h7, h8⟩ := R
    have R : yr_e p T fi ev bt bv (x :: e) (r :: rs) := ⟨f, h0, h1, h2, h3, h4, h5, h6, h7, h8⟩
    have hr1 := hr r List.mem_cons_self
    have cl : (nI r).toNatClampNeg = r := nI_clamp (by omega)
    have hi : vp_in (nI r) 64 := vp_in_nI (by omega) (by omega)
    have clf : (nI f).toNatClampNeg = f := nI_clamp (by omega)
    have hif : vp_in (fi (nI r).toNatClampNeg) 32 := by rw [cl, h1]; exact vp_in_nI (by omega) (by omega)
    have ek : yk (fi (nI r).toNatClampNeg).toNatClampNeg = nI x.1 := by rw [cl, h1, clf, (yp f h0).1, h2]
    have ea : ya (fi (nI r).toNatClampNeg).toNatClampNeg = pg_a p f := by rw [cl, h1, clf, (yp f h0).2.1]
    by_cases hm : x.1 = K ∧ pg_a p f = x2
    · refine ⟨[], r :: rs, rfl, fun hc => ?_, fun post hp n i hn hi' => ?_⟩
      · have : x.1 = K ∧ (s < 0 ∨ x.2.1 = s) := by
          refine ⟨hm.1, ?_⟩
          rcases hc with ⟨c1, c2, c3⟩ | ⟨c1, c2, c3⟩
          · exact Or.inr ((h4 (hm.1.trans c1)).1.symm.trans (hm.2.trans c2.symm))
          · exact Or.inl (by rw [c2]; decide)
        rw [ps_fd, if_pos this]; exact R
      · obtain ⟨n, rfl⟩ : ∃ m, n = m + 1 := ⟨n - 1, by omega⟩
        rw [List.length_cons] at hi'
        show wY_newest_6 post (nI K) x2 li to mo gi ut uv hgh cu de br th ot nm on yk ya yh yo yr y1 y2 fi ev it iv ph fr mi aT ed bt bv oT oV pa (n + 1) (nI r) (nI i)
        exact br_f (nI_ge (b := 64) (by omega) (by decide)) (br_f (nI_pos (by omega)) ⟨hi, hif, br_t (by rw [ek, hm.1]) ⟨hi, hif, br_t (by rw [ea, hm.2]) hp⟩⟩)
    · obtain ⟨l, rs', q1, q2, q3⟩ := yq_newest (x2 := x2) (s := s) hT yp ar hK h8 (fun z hz => hr z (List.mem_cons_of_mem _ hz))
      refine ⟨r :: l, rs', by rw [q1]; rfl, fun hc => ?_, fun post hp n i hn hi' => ?_⟩
      · have : ¬ (x.1 = K ∧ (s < 0 ∨ x.2.1 = s)) := by
          rintro ⟨g1, g2⟩
          rcases hc with ⟨c1, c2, c3⟩ | ⟨c1, c2, c3⟩
          · rcases g2 with g2 | g2
            · exact c3 g2
            · exact hm ⟨g1, (h4 (g1.trans c1)).1.trans (g2.trans c2)⟩
          · refine hm ⟨g1, ?_⟩
            rw [c3]
            refine (ar f h0).2.2 ?_
            rw [h2, g1]
            rcases hK with k | k | k
            · exact absurd k c1
            · exact Or.inr (Or.inr (Or.inl k))
            · exact Or.inr (Or.inr (Or.inr k))
        rw [ps_fd, if_neg this]; exact q2 hc
      · obtain ⟨n, rfl⟩ : ∃ m, n = m + 1 := ⟨n - 1, by omega⟩
        rw [List.length_cons] at hi' hn
        have nx := q3 post hp n (i + 1) (by omega) (by omega)
        show wY_newest_6 post (nI K) x2 li to mo gi ut uv hgh cu de br th ot nm on yk ya yh yo yr y1 y2 fi ev it iv ph fr mi aT ed bt bv oT oV pa (n + 1) (nI r) (nI i)
        refine br_f (nI_ge (b := 64) (by omega) (by decide)) (br_f (nI_pos (by omega)) ⟨hi, hif, ?_⟩)
        by_cases hk : x.1 = K
        · exact br_t (by rw [ek, hk]) ⟨hi, hif, br_f (by rw [ea]; exact fun z => hm ⟨hk, z⟩) ⟨hi, nm_r (e' := yr_h rs) (by rw [cl]; exact h6) (nm_r (nI_1 i) nx)⟩⟩
        · exact br_f (by rw [ek]; exact pb_ne (by omega) (by omega) hk) ⟨hi, nm_r (e' := yr_h rs) (by rw [cl]; exact h6) (nm_r (nI_1 i) nx)⟩
theorem yq_b308 {d : Nat} {v : PV} (hd : d < 64) (hP : th = pg_p p) (hv : aw_v v) (h1 : it d = v.1) (h2 : iv d = v.2) : ∀ {j c n : Nat} {oT oV : Nat → Int32}, c + j = 3 → n + j ≤ 8192 → (∀ l, l = (if v.1 = 0 then [] else if 12 < v.2 then [] else ps_chs p v j c) → post (li, to, mo, gi, ut, uv, hgh, nI (n + l.length), de, br, th, ot, nm, on, yk, ya, yh, yo, yr, y1, y2, fi, ev, it, iv, ph, fr, mi, aT, ed, bt, bv, yr_pT oT n l, yr_pV oV n l, pa)) → wY_begin_308 post (nI d) 2 v.1 v.2 (j + 1) (nI c) li to mo gi ut uv hgh (nI n) de br th ot nm on yk ya yh yo yr y1 y2 fi ev it iv ph fr mi aT ed bt bv oT oV pa
  | 0, c, n, oT, oV, hc, hn, H => by
    have e3 : c = 3 := by omega
    subst e3
    refine br_t rfl (br_t (by decide) (H [] ?_))
    split
    · rfl
    · split <;> rfl
  | j + 1, c, n, oT, oV, hc, hn, H => by
    refine br_t rfl (br_f (nI_ge (b := 3) (by omega) (by decide)) (br_c (fun hz => nm_r (nI_1 c) ?_) (fun hz => br_c (fun hw => nm_r (nI_1 c) ?_) (fun hw => ⟨?_, br_c (fun hp => nm_r (nI_1 c) ?_) (fun hp => ?_)⟩))))
    · refine yq_b308 hd hP hv h1 h2 (by omega) (by omega) (fun l hl => H l ?_)
      rw [hl, if_pos hz, if_pos hz]
    · refine yq_b308 hd hP hv h1 h2 (by omega) (by omega) (fun l hl => H l ?_)
      rw [hl, if_neg hz, if_neg hz, if_pos hw, if_pos hw]
    · obtain ⟨q, hq, _, eq⟩ := aw_v3 (c := c) hv hz (Int32.not_lt.mp hw)
      rw [eq]; exact vp_in_nI (by omega) (by omega)
    · refine yq_b308 hd hP hv h1 h2 (by omega) (by omega) (fun l hl => H l ?_)
      rw [hP] at hp
      rw [hl, if_neg hz, if_neg hz, if_neg hw, if_neg hw, ps_chs, if_pos hp]
    · rw [hP] at hp
      refine yq_key (v := v) hd (by omega) h1 h2 (nI_pos (by omega)) (nI_nlt (a := 2) (b := c) (by omega) (by decide)) ?_
      have hk : ps_key (nI c) v = [(v.1, 3 * v.2 + 1 + nI c)] := by
        unfold ps_key
        have h22 : ¬ (2 : Int32) < nI c := nI_nlt (a := 2) (b := c) (by omega) (by decide)
        rw [if_neg (nI_pos (by omega)), if_neg h22, if_neg hz, if_pos (Int32.not_lt.mp hw)]
      rw [hk]
      refine nm_r (nI_1 c) (yq_b308 (n := n + 1) hd hP hv h1 h2 (by omega) (by omega) (fun l hl => ?_))
      have e1 := H ((v.1, 3 * v.2 + 1 + nI c) :: l) (by rw [if_neg hz, if_neg hw, ps_chs, if_neg hp, hl, if_neg hz, if_neg hw])
      rw [List.length_cons, show n + (l.length + 1) = n + 1 + l.length by omega] at e1
      exact e1
end
end
section
section
variable {p : PG} {iw : Nat → Nat → Nat} {T N d f n : Nat} {e : PE} {rs : List Nat} {v : PV} {post : SY → Prop} {li to mo gi ut uv hgh cu de br : Int32} {th ot nm on yk ya yh yo yr y1 y2 fi ev it iv ph fr mi aT ed bt bv oT oV pa : Nat → Int32}
theorem yr_h_ne {rs : List Nat} (h : rs ≠ []) (hr : ∀ r, r ∈ rs → r < 64) : ∃ r, yr_h rs = nI r ∧ r < 64 ∧ r ∈ rs := by
  cases rs with
  | nil => exact absurd rfl h
  | cons r rs => exact ⟨r, rfl, hr r List.mem_cons_self, List.mem_cons_self⟩
theorem yq_leaf (hT : T ≤ 32) (yp : yr_p p T yk ya y1 y2) (ar : ps_ar p T) (hP : th = pg_p p) (hf : f < T) (hd : d < 64) (hn : n < 8192) (hn3 : pg_k p f = 2 → n + 3 ≤ 8192) (hk : pg_k p f < 8) (h6 : pg_k p f = 6 → ps_fd 14 (-1) e = []) (h1 : fi d = nI f) (h2 : ev d = yr_h rs) (h3 : it d = v.1) (h4 : iv d = v.2) (E : yr_e p T fi ev bt bv e rs) (hr : ∀ r, r ∈ rs → r < d) (hv : aw_v v) (H : post (li, to, mo, gi, ut, uv, hgh, nI (n + (ps_ev p (N + 1) f e v).1.length), de, yr_z rs (ps_ev p (N + 1) f e v).2, th, ot, nm, on, yk, ya, yh, yo, yr, y1, y2, fi, ev, it, iv, upd ph d 3, fr, mi, aT, ed, bt, bv, yr_pT oT n (ps_ev p (N + 1) f e v).1, yr_pV oV n (ps_ev p (N + 1) f e v).1, pa)) : wpY_begin post (li, to, mo, gi, ut, uv, hgh, nI n, de, br, th, ot, nm, on, yk, ya, yh, yo, yr, y1, y2, fi, ev, it, iv, ph, fr, mi, aT, ed, bt, bv, oT, oV, pa) (nI d) := by
  have cl : (nI d).toNatClampNeg = d := nI_clamp (by omega)
  have hi : vp_in (nI d) 64 := vp_in_nI (by omega) (by omega)
  have clf : (nI f).toNatClampNeg = f := nI_clamp (by omega)
  have hif : vp_in (nI f) 32 := vp_in_nI (by omega) (by omega)
  have hl := yr_e_dec E hr
  have hr' : ∀ r, r ∈ rs → r < 64 := fun r h => Nat.lt_trans (hr r h) hd
  have ha := (yp f hf).2.1
  rcases ps_kinds (show pg_k p f ≤ 17 by omega) with c | c | c | c | c | c | c | c | c | c | c | c | c | c | c | c | c
  all_goals first | omega | skip
  · obtain ⟨l', rs', q1, q2, q3⟩ := yq_newest (K := 13) (x2 := pg_a p f) (s := 0) hT yp ar (Or.inl rfl) E hr'
    rw [ps_ev0 c] at H
    refine ⟨hi, nm_r (e' := nI f) (by rw [cl]; exact h1) ⟨hif, nm_r (e' := 0) (by rw [clf, (yp f hf).1, c]; rfl) ⟨hif, nm_r (e' := pg_a p f) (by rw [clf]; exact ha) ⟨hi, nm_r (e' := yr_h rs) (by rw [cl]; exact h2) ⟨hi, nm_r (e' := v.1) (by rw [cl]; exact h3) ⟨hi, nm_r (e' := v.2) (by rw [cl]; exact h4) ?_⟩⟩⟩⟩⟩⟩
    refine br_f (by decide) (br_f (by decide) ⟨rs.length + 1, q3 _ ?_ _ 0 (by omega) (by omega)⟩)
    refine br_f (by decide) ⟨hi, nm_r (congrArg (fun z => upd ph z 3) cl) (br_t (by decide) (br_f (by decide) ?_))⟩
    refine br_f (by decide) (br_f (by decide) (br_t rfl (br_f (by decide) (br_f (by decide) (yq_emit hn ⟨1, br_f (by decide) H⟩)))))
  · obtain ⟨l', rs', q1, q2, q3⟩ := yq_newest (K := 13) (x2 := pg_a p f) (s := 0) hT yp ar (Or.inl rfl) E hr'
    rw [ps_ev1 c] at H
    refine ⟨hi, nm_r (e' := nI f) (by rw [cl]; exact h1) ⟨hif, nm_r (e' := 1) (by rw [clf, (yp f hf).1, c]; rfl) ⟨hif, nm_r (e' := pg_a p f) (by rw [clf]; exact ha) ⟨hi, nm_r (e' := yr_h rs) (by rw [cl]; exact h2) ⟨hi, nm_r (e' := v.1) (by rw [cl]; exact h3) ⟨hi, nm_r (e' := v.2) (by rw [cl]; exact h4) ?_⟩⟩⟩⟩⟩⟩
    refine br_f (by decide) (br_f (by decide) ⟨rs.length + 1, q3 _ ?_ _ 0 (by omega) (by omega)⟩)
    refine br_f (by decide) ⟨hi, nm_r (congrArg (fun z => upd ph z 3) cl) (br_t (by decide) (br_f (by decide) ?_))⟩
    refine br_f (by decide) (br_f (by decide) (br_f (by decide) (br_f (by decide) (br_t rfl (yq_key hd hn h3 h4 ((ar f hf).1 c).1 ((ar f hf).1 c).2 ⟨1, br_f (by decide) H⟩)))))
  · obtain ⟨l', rs', q1, q2, q3⟩ := yq_newest (K := 13) (x2 := pg_a p f) (s := 0) hT yp ar (Or.inl rfl) E hr'
    rw [ps_ev2 c] at H
    refine ⟨hi, nm_r (e' := nI f) (by rw [cl]; exact h1) ⟨hif, nm_r (e' := 2) (by rw [clf, (yp f hf).1, c]; rfl) ⟨hif, nm_r (e' := pg_a p f) (by rw [clf]; exact ha) ⟨hi, nm_r (e' := yr_h rs) (by rw [cl]; exact h2) ⟨hi, nm_r (e' := v.1) (by rw [cl]; exact h3) ⟨hi, nm_r (e' := v.2) (by rw [cl]; exact h4) ?_⟩⟩⟩⟩⟩⟩
    refine br_f (by decide) (br_f (by decide) ⟨rs.length + 1, q3 _ ?_ _ 0 (by omega) (by omega)⟩)
    refine br_f (by decide) ⟨hi, nm_r (congrArg (fun z => upd ph z 3) cl) (br_t (by decide) (br_f (by decide) ?_))⟩
    refine br_f (by decide) (br_f (by decide) (br_f (by decide) (br_f (by decide) (br_f (by decide) ⟨4, yq_b308 (j := 3) (c := 0) hd hP hv h3 h4 rfl (hn3 c) (fun l hl => ?_)⟩))))
    rw [hl]; exact H
  · obtain ⟨l', rs', q1, q2, q3⟩ := yq_newest (K := 13) (x2 := pg_a p f) (s := 0) hT yp ar (Or.inl rfl) E hr'
    rw [ps_ev3 c] at H
    refine ⟨hi, nm_r (e' := nI f) (by rw [cl]; exact h1) ⟨hif, nm_r (e' := 3) (by rw [clf, (yp f hf).1, c]; rfl) ⟨hif, nm_r (e' := pg_a p f) (by rw [clf]; exact ha) ⟨hi, nm_r (e' := yr_h rs) (by rw [cl]; exact h2) ⟨hi, nm_r (e' := v.1) (by rw [cl]; exact h3) ⟨hi, nm_r (e' := v.2) (by rw [cl]; exact h4) ?_⟩⟩⟩⟩⟩⟩
    refine br_f (by decide) (br_f (by decide) ⟨rs.length + 1, q3 _ ?_ _ 0 (by omega) (by omega)⟩)
    refine br_f (by decide) ⟨hi, nm_r (congrArg (fun z => upd ph z 3) cl) (br_t (by decide) (br_f (by decide) ?_))⟩
    refine br_f (by decide) (br_f (by decide) (br_f (by decide) (br_t rfl (br_t rfl (br_t rfl (yq_emit hn ⟨1, br_f (by decide) H⟩))))))
  · obtain ⟨l', rs', q1, q2, q3⟩ := yq_newest (K := 13) (x2 := pg_a p f) (s := pg_a p f) hT yp ar (Or.inl rfl) E hr'
    have q2 := q2 (Or.inl ⟨rfl, rfl, (ar f hf).2.1 c⟩)
    rw [ps_ev4 c, ps_var] at H
    refine ⟨hi, nm_r (e' := nI f) (by rw [cl]; exact h1) ⟨hif, nm_r (e' := 4) (by rw [clf, (yp f hf).1, c]; rfl) ⟨hif, nm_r (e' := pg_a p f) (by rw [clf]; exact ha) ⟨hi, nm_r (e' := yr_h rs) (by rw [cl]; exact h2) ⟨hi, nm_r (e' := v.1) (by rw [cl]; exact h3) ⟨hi, nm_r (e' := v.2) (by rw [cl]; exact h4) ?_⟩⟩⟩⟩⟩⟩
    refine br_f (by decide) (br_f (by decide) ⟨rs.length + 1, q3 _ ?_ _ 0 (by omega) (by omega)⟩)
    refine br_f (by decide) ⟨hi, nm_r (congrArg (fun z => upd ph z 3) cl) (br_t (by decide) (br_f (by decide) ?_))⟩
    refine br_f (by decide) (br_t rfl ?_)
    match hx : ps_fd 13 (pg_a p f) e, rs', q1, q2, H with
    | [], [], q1, q2, H =>
      exact br_t (by decide) (br_t (by decide) (yq_emit hn ⟨1, br_f (by decide) H⟩))
    | [], _ :: _, q1, q2, H => exact q2.elim
    | _ :: _, [], q1, q2, H => exact q2.elim
    | x :: e', r :: rs'', q1, q2, H =>
      obtain ⟨f', g0, g1, g2, g3, g4, g5, g6, g7, g8⟩ := q2
      have hrr : r < 64 := hr' r (by rw [q1]; exact List.mem_append_right _ List.mem_cons_self)
      have clr : (nI r).toNatClampNeg = r := nI_clamp (by omega)
      have hir : vp_in (nI r) 64 := vp_in_nI hrr (by omega)
      have g4 := g4 (ps_fd_hd hx).1
      refine br_f (nI_pos (by omega)) ⟨hir, br_f (nI_pos (by omega)) ⟨hir, ?_⟩⟩
      show wpY_emit _ _ (bt (nI r).toNatClampNeg) (bv (nI r).toNatClampNeg)
      rw [clr, g4.2.1, g4.2.2]
      exact yq_emit hn ⟨1, br_f (by decide) H⟩
  · obtain ⟨l', rs', q1, q2, q3⟩ := yq_newest (K := 13) (x2 := pg_a p f) (s := 0) hT yp ar (Or.inl rfl) E hr'
    rw [ps_ev5 c] at H
    refine ⟨hi, nm_r (e' := nI f) (by rw [cl]; exact h1) ⟨hif, nm_r (e' := 5) (by rw [clf, (yp f hf).1, c]; rfl) ⟨hif, nm_r (e' := pg_a p f) (by rw [clf]; exact ha) ⟨hi, nm_r (e' := yr_h rs) (by rw [cl]; exact h2) ⟨hi, nm_r (e' := v.1) (by rw [cl]; exact h3) ⟨hi, nm_r (e' := v.2) (by rw [cl]; exact h4) ?_⟩⟩⟩⟩⟩⟩
    refine br_f (by decide) (br_f (by decide) ⟨rs.length + 1, q3 _ ?_ _ 0 (by omega) (by omega)⟩)
    refine br_f (by decide) ⟨hi, nm_r (congrArg (fun z => upd ph z 3) cl) (br_t (by decide) (br_f (by decide) ?_))⟩
    exact br_f (by decide) (br_f (by decide) (br_f (by decide) (br_f (by decide) (br_f (by decide) ⟨1, br_f (by decide) H⟩))))
  · obtain ⟨l', rs', q1, q2, q3⟩ := yq_newest (K := 14) (x2 := 0) (s := -1) hT yp ar (Or.inr (Or.inr rfl)) E hr'
    have q2 := q2 (Or.inr ⟨by decide, rfl, rfl⟩)
    have ha0 := (ar f hf).2.2 (Or.inl c)
    rw [h6 c] at q2
    rw [ps_ev6 c, h6 c, ps_par] at H
    refine ⟨hi, nm_r (e' := nI f) (by rw [cl]; exact h1) ⟨hif, nm_r (e' := 6) (by rw [clf, (yp f hf).1, c]; rfl) ⟨hif, nm_r (e' := 0) (by rw [clf, ha]; exact ha0) ⟨hi, nm_r (e' := yr_h rs) (by rw [cl]; exact h2) ⟨hi, nm_r (e' := v.1) (by rw [cl]; exact h3) ⟨hi, nm_r (e' := v.2) (by rw [cl]; exact h4) ?_⟩⟩⟩⟩⟩⟩
    refine br_t rfl ⟨rs.length + 1, q3 _ ?_ _ 0 (by omega) (by omega)⟩
    refine br_f (by decide) ⟨hi, nm_r (congrArg (fun z => upd ph z 3) cl) (br_t (by decide) (br_t rfl ?_))⟩
    match rs', q2 with
    | [], q2 => exact br_t (show (-1 : Int32) < 0 by decide) (br_f (by decide) (br_f (by decide) (br_f (by decide) (br_f (by decide) (br_f (by decide) ⟨1, br_f (by decide) H⟩)))))
    | _ :: _, q2 => exact q2.elim
  · obtain ⟨l', rs', q1, q2, q3⟩ := yq_newest (K := 9) (x2 := 0) (s := -1) hT yp ar (Or.inr (Or.inl rfl)) E hr'
    have q2 := q2 (Or.inr ⟨by decide, rfl, rfl⟩)
    have ha0 := (ar f hf).2.2 (Or.inr (Or.inl c))
    rw [ps_ev7 c, ← yr_e_len q2] at H
    refine ⟨hi, nm_r (e' := nI f) (by rw [cl]; exact h1) ⟨hif, nm_r (e' := 7) (by rw [clf, (yp f hf).1, c]; rfl) ⟨hif, nm_r (e' := 0) (by rw [clf, ha]; exact ha0) ⟨hi, nm_r (e' := yr_h rs) (by rw [cl]; exact h2) ⟨hi, nm_r (e' := v.1) (by rw [cl]; exact h3) ⟨hi, nm_r (e' := v.2) (by rw [cl]; exact h4) ?_⟩⟩⟩⟩⟩⟩
    refine br_f (by decide) (br_t rfl ⟨rs.length + 1, q3 _ ?_ _ 0 (by omega) (by omega)⟩)
    refine br_f (by decide) ⟨hi, nm_r (congrArg (fun z => upd ph z 3) cl) (br_t (by decide) (br_f (by decide) (br_t rfl ?_)))⟩
    cases rs' with
    | nil => exact br_t (show (-1 : Int32) < 0 by decide) ⟨1, br_f (by decide) H⟩
    | cons r rs'' =>
      have hrr : r < 64 := hr' r (by rw [q1]; exact List.mem_append_right _ List.mem_cons_self)
      have ez : yr_z rs (some (r :: rs'').length) = nI r := by
        rw [yr_z, if_neg (by simp), List.length_cons, q1, yr_lf_app]
      rw [ez] at H
      exact br_f (nI_pos (show r < 2 ^ 31 by omega)) ⟨1, br_f (by decide) H⟩
/-- a parameter with a call around it -/
theorem yq_param {x : Nat × Int32 × Int32 × Int32 × Nat} {e' : PE} (hT : T ≤ 32) (yp : yr_p p T yk ya y1 y2) (ar : ps_ar p T) (hf : f < T) (hd : d < 62) (c : pg_k p f = 6) (hx : ps_fd 14 (-1) e = x :: e') (h1 : fi d = nI f) (h2 : ev d = yr_h rs) (h3 : it d = v.1) (h4 : iv d = v.2) (E : yr_e p T fi ev bt bv e rs) (hr : ∀ r, r ∈ rs → r < d)
    (H : ∀ l r rs'', rs = l ++ r :: rs'' → yr_e p T fi ev bt bv e' rs'' → post (li, to, mo, gi, ut, uv, hgh, cu, nI (d + 1), 98, th, ot, nm, on, yk, ya, yh, yo, yr, y1, y2, upd fi (d + 1) x.2.1, upd ev (d + 1) (yr_h rs''), upd it (d + 1) v.1, upd iv (d + 1) v.2, upd (upd ph d 3) (d + 1) 0, upd fr (d + 1) cu, mi, aT, ed, bt, bv, oT, oV, pa)) : wpY_begin post (li, to, mo, gi, ut, uv, hgh, cu, nI d, br, th, ot, nm, on, yk, ya, yh, yo, yr, y1, y2, fi, ev, it, iv, ph, fr, mi, aT, ed, bt, bv, oT, oV, pa) (nI d) := by
  have cl : (nI d).toNatClampNeg = d := nI_clamp (by omega)
  have hi : vp_in (nI d) 64 := vp_in_nI (by omega) (by omega)
  have clf : (nI f).toNatClampNeg = f := nI_clamp (by omega)
  have hif : vp_in (nI f) 32 := vp_in_nI (by omega) (by omega)
  have hl := yr_e_dec E hr
  have hr' : ∀ r, r ∈ rs → r < 64 := fun r h => Nat.lt_trans (hr r h) (by omega)
  have ha := (yp f hf).2.1
  obtain ⟨l', rs', q1, q2, q3⟩ := yq_newest (K := 14) (x2 := 0) (s := -1) hT yp ar (Or.inr (Or.inr rfl)) E hr'
  have q2 := q2 (Or.inr ⟨by decide, rfl, rfl⟩)
  have ha0 := (ar f hf).2.2 (Or.inl c)
  rw [hx] at q2
  refine ⟨hi, nm_r (e' := nI f) (by rw [cl]; exact h1) ⟨hif, nm_r (e' := 6) (by rw [clf, (yp f hf).1, c]; rfl) ⟨hif, nm_r (e' := 0) (by rw [clf, ha]; exact ha0) ⟨hi, nm_r (e' := yr_h rs) (by rw [cl]; exact h2) ⟨hi, nm_r (e' := v.1) (by rw [cl]; exact h3) ⟨hi, nm_r (e' := v.2) (by rw [cl]; exact h4) ?_⟩⟩⟩⟩⟩⟩
  refine br_t rfl ⟨rs.length + 1, q3 _ ?_ _ 0 (by omega) (by omega)⟩
  refine br_f (by decide) ⟨hi, nm_r (congrArg (fun z => upd ph z 3) cl) (br_t (by decide) (br_t rfl ?_))⟩
  match rs', q1, q2 with
  | [], q1, q2 => exact q2.elim
  | r :: rs'', q1, q2 =>
    obtain ⟨f', g0, g1, g2, g3, g4, g5, g6, g7, g8⟩ := q2
    have hrr : r < 64 := hr' r (by rw [q1]; exact List.mem_append_right _ List.mem_cons_self)
    have clr : (nI r).toNatClampNeg = r := nI_clamp (by omega)
    have hir : vp_in (nI r) 64 := vp_in_nI hrr (by omega)
    have clf' : (nI f').toNatClampNeg = f' := nI_clamp (by omega)
    have h14 := (ps_fd_hd hx).1
    refine br_f (nI_pos (show r < 2 ^ 31 by omega)) ⟨hir, ?_, hir, ?_⟩
    · show vp_in (fi (nI r).toNatClampNeg) 32
      rw [clr, g1]; exact vp_in_nI (by omega) (by omega)
    · show wpY_enter _ _ (y2 (fi (nI r).toNatClampNeg).toNatClampNeg) (ev (nI r).toNatClampNeg) _ _
      rw [clr, g1, clf', g6, (yp f' g0).2.2.2.1 (by omega), ← g5 h14]
      exact yq_enter hd ⟨1, br_f (by decide) (H l' r rs'' q1 g8)⟩
/-- a filter with operands begins with its first one -/
theorem yq_first (hT : T ≤ 32) (yp : yr_p p T yk ya y1 y2) (ar : ps_ar p T) (ok : ps_ok p iw T) (hf : f < T) (hd : d < 62) (c : 8 ≤ pg_k p f) (h1 : fi d = nI f) (h2 : ev d = yr_h rs) (h3 : it d = v.1) (h4 : iv d = v.2) (E : yr_e p T fi ev bt bv e rs) (hr : ∀ r, r ∈ rs → r < d)
    (H : post (li, to, mo, gi, ut, uv, hgh, cu, nI (d + 1), 98, th, ot, nm, on, yk, ya, yh, yo, yr, y1, y2, upd fi (d + 1) (nI (pg_1 p f)), upd ev (d + 1) (if pg_k p f = 9 ∨ pg_k p f = 14 then nI d else yr_h rs), upd it (d + 1) v.1, upd iv (d + 1) v.2, upd (upd ph d 1) (d + 1) 0, upd fr (d + 1) cu, mi, aT, ed, bt, bv, oT, oV, pa)) : wpY_begin post (li, to, mo, gi, ut, uv, hgh, cu, nI d, br, th, ot, nm, on, yk, ya, yh, yo, yr, y1, y2, fi, ev, it, iv, ph, fr, mi, aT, ed, bt, bv, oT, oV, pa) (nI d) := by
  have cl : (nI d).toNatClampNeg = d := nI_clamp (by omega)
  have hi : vp_in (nI d) 64 := vp_in_nI (by omega) (by omega)
  have clf : (nI f).toNatClampNeg = f := nI_clamp (by omega)
  have hif : vp_in (nI f) 32 := vp_in_nI (by omega) (by omega)
  have hl := yr_e_dec E hr
  have hr' : ∀ r, r ∈ rs → r < 64 := fun r h => Nat.lt_trans (hr r h) (by omega)
  have ha := (yp f hf).2.1
  have hK := (ok.2 f hf).1
  have h11 := (yp f hf).2.2.1 c
  obtain ⟨l', rs', q1, q2, q3⟩ := yq_newest (K := 13) (x2 := pg_a p f) (s := 0) hT yp ar (Or.inl rfl) E hr'
  have n6 : ¬ nI (pg_k p f) = 6 := pb_ne (b := 6) (by omega) (by decide) (by omega)
  have n7 : ¬ nI (pg_k p f) = 7 := pb_ne (b := 7) (by omega) (by decide) (by omega)
  have n2 : ¬ nI (pg_k p f) = 2 := pb_ne (b := 2) (by omega) (by decide) (by omega)
  have n8 : ¬ nI (pg_k p f) < 8 := nI_nlt (b := 8) (by omega) (by omega)
  have n8' : (8 : Int32) ≤ nI (pg_k p f) := nI_le (a := 8) (by omega) (by omega)
  refine ⟨hi, nm_r (e' := nI f) (by rw [cl]; exact h1) ⟨hif, nm_r (e' := nI (pg_k p f)) (by rw [clf, (yp f hf).1]) ⟨hif, nm_r (e' := pg_a p f) (by rw [clf]; exact ha) ⟨hi, nm_r (e' := yr_h rs) (by rw [cl]; exact h2) ⟨hi, nm_r (e' := v.1) (by rw [cl]; exact h3) ⟨hi, nm_r (e' := v.2) (by rw [cl]; exact h4) ?_⟩⟩⟩⟩⟩⟩
  refine br_f n6 (br_f n7 ⟨rs.length + 1, q3 _ ?_ _ 0 (by omega) (by omega)⟩)
  refine br_t n8' ⟨hi, nm_r (congrArg (fun z => upd ph z 1) cl) (br_f n8 ⟨hif, ?_⟩)⟩
  rw [clf, h11]
  by_cases k9 : pg_k p f = 9
  · rw [if_pos (Or.inl k9)] at H
    exact br_t (by rw [k9]; rfl) (yq_enter hd ⟨1, br_f n2 H⟩)
  · refine br_f (pb_ne (b := 9) (by omega) (by decide) k9) ?_
    by_cases k14 : pg_k p f = 14
    · rw [if_pos (Or.inr k14)] at H
      exact br_t (by rw [k14]; rfl) (yq_enter hd ⟨1, br_f n2 H⟩)
    · rw [if_neg (by omega)] at H
      exact br_f (pb_ne (b := 14) (by omega) (by decide) k14) (yq_enter hd ⟨1, br_f n2 H⟩)
end
end
section
section
variable {p : PG} {iw : Nat → Nat → Nat} {T d f : Nat} {rs : List Nat} {v : PV} {post : SY → Prop} {li to mo gi ut uv hgh cu de br : Int32} {th ot nm on yk ya yh yo yr y1 y2 fi ev it iv ph fr mi aT ed bt bv oT oV pa : Nat → Int32}
theorem yq_each2 (hT : T ≤ 32) (yp : yr_p p T yk ya y1 y2) (hf : f < T) (hd : d < 64) (h1 : fi d = nI f) (h2 : ev d = yr_h rs) (h3 : it d = v.1) (h4 : iv d = v.2) (hph : ph d = 2) (H : wY_each_101 post (nI d) (nI f) (nI (pg_k p f)) (y2 f) (yr_h rs) v.1 v.2 li to mo gi ut uv hgh cu de br th ot nm on yk ya yh yo yr y1 y2 fi ev it iv ph fr mi aT ed bt bv oT oV pa) : wpY_each post (li, to, mo, gi, ut, uv, hgh, cu, de, br, th, ot, nm, on, yk, ya, yh, yo, yr, y1, y2, fi, ev, it, iv, ph, fr, mi, aT, ed, bt, bv, oT, oV, pa) (nI d) := by
  have cl : (nI d).toNatClampNeg = d := nI_clamp (by omega)
  have hi : vp_in (nI d) 64 := vp_in_nI (by omega) (by omega)
  have clf : (nI f).toNatClampNeg = f := nI_clamp (by omega)
  have hif : vp_in (nI f) 32 := vp_in_nI (by omega) (by omega)
  exact ⟨hi, nm_r (e' := nI f) (by rw [cl]; exact h1) ⟨hif, nm_r (e' := nI (pg_k p f)) (by rw [clf]; exact (yp f hf).1) ⟨hif, nm_r (e' := y2 f) (by rw [clf]) ⟨hi, nm_r (e' := yr_h rs) (by rw [cl]; exact h2) ⟨hi, nm_r (e' := v.1) (by rw [cl]; exact h3) ⟨hi, nm_r (e' := v.2) (by rw [cl]; exact h4) ⟨hi, br_f (by rw [cl, hph]; decide) H⟩⟩⟩⟩⟩⟩⟩
theorem yq_each1 (hT : T ≤ 32) (yp : yr_p p T yk ya y1 y2) (hf : f < T) (hd : d < 64) (h1 : fi d = nI f) (h2 : ev d = yr_h rs) (h3 : it d = v.1) (h4 : iv d = v.2) (hph : ph d = 1) (H : wY_each_101 post (nI d) (nI f) (nI (pg_k p f)) (y2 f) (yr_h rs) v.1 v.2 li to mo gi ut uv hgh cu de 98 th ot nm on yk ya yh yo yr y1 y2 fi ev it iv (upd ph d 2) fr (upd mi d cu) (upd aT d (fr d)) (upd ed d br) bt bv oT oV pa) : wpY_each post (li, to, mo, gi, ut, uv, hgh, cu, de, br, th, ot, nm, on, yk, ya, yh, yo, yr, y1, y2, fi, ev, it, iv, ph, fr, mi, aT, ed, bt, bv, oT, oV, pa) (nI d) := by
  have cl : (nI d).toNatClampNeg = d := nI_clamp (by omega)
  have hi : vp_in (nI d) 64 := vp_in_nI (by omega) (by omega)
  have clf : (nI f).toNatClampNeg = f := nI_clamp (by omega)
  have hif : vp_in (nI f) 32 := vp_in_nI (by omega) (by omega)
  exact ⟨hi, nm_r (e' := nI f) (by rw [cl]; exact h1) ⟨hif, nm_r (e' := nI (pg_k p f)) (by rw [clf]; exact (yp f hf).1) ⟨hif, nm_r (e' := y2 f) (by rw [clf]) ⟨hi, nm_r (e' := yr_h rs) (by rw [cl]; exact h2) ⟨hi, nm_r (e' := v.1) (by rw [cl]; exact h3) ⟨hi, nm_r (e' := v.2) (by rw [cl]; exact h4) ⟨hi, br_t (by rw [cl, hph]) ⟨hi, nm_r (e' := upd ph d 2) (by rw [cl]) ⟨hi, nm_r (e' := upd mi d cu) (by rw [cl]) ⟨hi, hi, nm_r (e' := upd aT d (fr d)) (by rw [cl]) ⟨hi, nm_r (e' := upd ed d br) (by rw [cl]) H⟩⟩⟩⟩⟩⟩⟩⟩⟩⟩⟩
/-- the outputs of b for the x before become atoms -/
theorem yq_conv {K cX C : Nat} {x4 x5 x9 : Int32} {o : PV} (hK : K = 15 ∨ K = 16) (hN : nm = pg_n p) (ho : aw_v o) (hC : C ≤ 8192) (hcu : cu = nI C) : ∀ {raw : List PV} {i : Nat} {oT oV : Nat → Int32}, cX < i → oT cX = o.1 → oV cX = o.2 → yr_sg oT oV i raw → (∀ q, q ∈ raw → aw_v q) → i + raw.length = C →
    (∀ oT' oV', (∀ j, j < i → oT' j = oT j ∧ oV' j = oV j) → yr_sg oT' oV' i (raw.map (fun q => ps_cmb K (ps_num p o) (ps_num p q))) → ∃ n, wY_each_164 post (nI d) (nI f) (nI K) x4 x5 v.1 v.2 (nI (cX + 1)) x9 li to mo gi ut uv hgh cu de br n (nI C) th ot nm on yk ya yh yo yr y1 y2 fi ev it iv ph fr mi aT ed bt bv oT' oV' pa) → ∃ n, wY_each_164 post (nI d) (nI f) (nI K) x4 x5 v.1 v.2 (nI (cX + 1)) x9 li to mo gi ut uv hgh cu de br n (nI i) th ot nm on yk ya yh yo yr y1 y2 fi ev it iv ph fr mi aT ed bt bv oT oV pa
  | [], i, oT, oV, hc, h1, h2, hs, hv, hl, H => by
    have e : i = C := hl
    rw [e]
    exact H oT oV (fun _ _ => ⟨rfl, rfl⟩) trivial
  | q :: raw, i, oT, oV, hc, h1, h2, ⟨s1, s2, s3⟩, hv, hl, H => by
    rw [List.length_cons] at hl
    have hi : i < 8192 := by omega
    have cl : (nI i).toNatClampNeg = i := nI_clamp (by omega)
    have hiv : vp_in (nI i) 8192 := vp_in_nI hi (by omega)
    have nx := yq_conv (x4 := x4) (x5 := x5) (x9 := x9) hK hN ho hC hcu (raw := raw) (i := i + 1) (oT := upd oT i 0) (oV := upd oV i (ps_cmb K (ps_num p o) (ps_num p q)).2) (by omega) ((pb_u hc).trans h1) ((pb_u hc).trans h2) (yr_sg_ag (fun j hj _ => ⟨pk_un (by omega), pk_un (by omega)⟩) s3) (fun z hz => hv z (List.mem_cons_of_mem _ hz)) (by omega) (fun oT' oV' ha hs' => H oT' oV' (fun j hj => ⟨(ha j (by omega)).1.trans (pb_u hj), (ha j (by omega)).2.trans (pb_u hj)⟩) ⟨(ha i (by omega)).1.trans pk_us, (ha i (by omega)).2.trans pk_us, hs'⟩)
    obtain ⟨n, nx⟩ := nx
    refine ⟨n + 1, br_f (by rw [hcu]; exact nI_ge (by omega) (by omega)) ?_⟩
    rw [nI_pred]
    refine yq_numAt (o := o) (by omega) h1 h2 ho hN (yq_numAt (o := q) hi s1 s2 (hv q List.mem_cons_self) hN ⟨hiv, nm_r (e' := upd oT i 0) (by rw [cl]) ?_⟩)
    rcases hK with rfl | rfl
    · exact br_t rfl ⟨hiv, nm_r (e' := upd oV i (ps_num p o + ps_num p q)) (by rw [cl]) (nm_r (nI_1 i) nx)⟩
    · refine br_f (by decide) (br_c (fun hc => ⟨hiv, nm_r (e' := upd oV i 0) (by rw [cl]) (nm_r (nI_1 i) ?_)⟩) (fun hc => ⟨hiv, nm_r (e' := upd oV i 1) (by rw [cl]) (nm_r (nI_1 i) ?_)⟩))
      · have : (ps_cmb 16 (ps_num p o) (ps_num p q)).2 = 0 := if_pos hc
        rw [this] at nx; exact nx
      · have : (ps_cmb 16 (ps_num p o) (ps_num p q)).2 = 1 := if_neg hc
        rw [this] at nx; exact nx
/-- the outputs move down over a's list -/
theorem yq_shift {la C : Nat} {x3 x4 x5 : Int32} (hC : C ≤ 8192) (hcu : cu = nI C) : ∀ {l : List PV} {i : Nat} {oT oV : Nat → Int32}, la ≤ i → yr_sg oT oV i l → i + l.length = C →
    (∀ oT' oV', (∀ j, j < i - la → oT' j = oT j ∧ oV' j = oV j) → yr_sg oT' oV' (i - la) l → ∃ n, wY_each_478 post (nI d) x3 x4 x5 v.1 v.2 (nI la) li to mo gi ut uv hgh cu de br n (nI C) th ot nm on yk ya yh yo yr y1 y2 fi ev it iv ph fr mi aT ed bt bv oT' oV' pa) → ∃ n, wY_each_478 post (nI d) x3 x4 x5 v.1 v.2 (nI la) li to mo gi ut uv hgh cu de br n (nI i) th ot nm on yk ya yh yo yr y1 y2 fi ev it iv ph fr mi aT ed bt bv oT oV pa
  | [], i, oT, oV, hi, hs, hl, H => by
    have e : i = C := hl
    subst e
    exact H oT oV (fun _ _ => ⟨rfl, rfl⟩) trivial
  | q :: l, i, oT, oV, hi, ⟨s1, s2, s3⟩, hl, H => by
    rw [List.length_cons] at hl
    have cl : (nI i).toNatClampNeg = i := nI_clamp (by omega)
    have hiv : vp_in (nI i) 8192 := vp_in_nI (by omega) (by omega)
    have hsub : nI i - nI la = nI (i - la) := pk_sub hi
    have cl2 : (nI (i - la)).toNatClampNeg = i - la := nI_clamp (by omega)
    have hiv2 : vp_in (nI i - nI la) 8192 := by rw [hsub]; exact vp_in_nI (by omega) (by omega)
    have nx := yq_shift (x3 := x3) (x4 := x4) (x5 := x5) hC hcu (l := l) (i := i + 1) (oT := upd oT (i - la) q.1) (oV := upd oV (i - la) q.2) (by omega) (yr_sg_ag (fun j hj _ => ⟨pk_un (by omega), pk_un (by omega)⟩) s3) (by omega) (fun oT' oV' ha hs' => H oT' oV' (fun j hj => ⟨(ha j (by omega)).1.trans (pb_u hj), (ha j (by omega)).2.trans (pb_u hj)⟩) ⟨(ha (i - la) (by omega)).1.trans pk_us, (ha (i - la) (by omega)).2.trans pk_us, by rw [show i - la + 1 = i + 1 - la by omega]; exact hs'⟩)
    obtain ⟨n, nx⟩ := nx
    exact ⟨n + 1, br_f (by rw [hcu]; exact nI_ge (by omega) (by omega)) ⟨hiv, hiv2, nm_r (e' := upd oT (i - la) q.1) (by rw [hsub, cl, cl2, s1]) ⟨hiv, hiv2, nm_r (e' := upd oV (i - la) q.2) (by rw [hsub, cl, cl2, s2]) (nm_r (nI_1 i) nx)⟩⟩⟩
theorem yq_478 {la C : Nat} {x3 x4 x5 b0 : Int32} (hd : d < 64) (hla : la ≤ C) (hb : b0 = if br = 98 then ed d else br) (H : wY_each_564 post (nI d) x3 x4 x5 v.1 v.2 li to mo gi ut uv hgh (nI (C - la)) de b0 th ot nm on yk ya yh yo yr y1 y2 fi ev it iv (upd ph d 3) fr mi aT ed bt bv oT oV pa) : wY_each_478 post (nI d) x3 x4 x5 v.1 v.2 (nI la) li to mo gi ut uv hgh (nI C) de br 1 (nI C) th ot nm on yk ya yh yo yr y1 y2 fi ev it iv ph fr mi aT ed bt bv oT oV pa := by
  have cl : (nI d).toNatClampNeg = d := nI_clamp (by omega)
  have hi : vp_in (nI d) 64 := vp_in_nI (by omega) (by omega)
  refine br_t (Int32.le_refl _) (nm_r (pk_sub hla) ⟨hi, nm_r (e' := upd ph d 3) (by rw [cl]) ?_⟩)
  by_cases h : br = 98
  · rw [if_pos h] at hb
    exact br_t h ⟨hi, nm_r (e' := b0) (by rw [cl, hb]) H⟩
  · rw [if_neg h] at hb
    subst hb
    exact br_f h H
end
end
section
section
variable {p : PG} {iw : Nat → Nat → Nat} {T d f X C m : Nat} {rs : List Nat} {o v : PV} {x4 x5 x9 : Int32} {post : SY → Prop} {li to mo gi ut uv hgh cu de br : Int32} {th ot nm on yk ya yh yo yr y1 y2 fi ev it iv ph fr mi aT ed bt bv oT oV pa : Nat → Int32}
theorem yq_101A {K cnt la x : Nat} (hd : d < 64) (hK : K ≤ 17) (n15 : K ≠ 15) (n16 : K ≠ 16) (h5 : fr d = nI cnt) (hmi : mi d = nI (cnt + la)) (hat : aT d = nI (cnt + x)) (H : ∃ n, wY_each_164 post (nI d) (nI f) (nI K) x4 x5 v.1 v.2 (nI (cnt + x)) (nI la) li to mo gi ut uv hgh cu de br n cu th ot nm on yk ya yh yo yr y1 y2 fi ev it iv ph fr mi aT ed bt bv oT oV pa) : wY_each_101 post (nI d) (nI f) (nI K) x4 x5 v.1 v.2 li to mo gi ut uv hgh cu de br th ot nm on yk ya yh yo yr y1 y2 fi ev it iv ph fr mi aT ed bt bv oT oV pa := by
  have cl : (nI d).toNatClampNeg = d := nI_clamp (by omega)
  have hi : vp_in (nI d) 64 := vp_in_nI (by omega) (by omega)
  refine ⟨hi, nm_r (e' := nI (cnt + x)) (by rw [cl]; exact hat) ⟨hi, hi, nm_r (e' := nI la) (by rw [cl, hmi, h5, pk_sub (by omega), Nat.add_sub_cancel_left]) ?_⟩⟩
  exact br_f (pb_ne (b := 15) (by omega) (by decide) n15) (br_f (pb_ne (b := 16) (by omega) (by decide) n16) H)
theorem yq_101B {K cnt la x i : Nat} (hd : d < 62) (hK : K = 15 ∨ K = 16) (hb : cnt + x < 2 ^ 31) (h5 : fr d = nI cnt) (hmi : mi d = nI (cnt + la)) (hat : aT d = nI (cnt + x)) (h0 : x = 0 → cu = nI i) (h6 : 0 < x → fr (d + 1) = nI i) (H : ∃ n, wY_each_164 post (nI d) (nI f) (nI K) x4 x5 v.1 v.2 (nI (cnt + x)) (nI la) li to mo gi ut uv hgh cu de br n (nI i) th ot nm on yk ya yh yo yr y1 y2 fi ev it iv ph fr mi aT ed bt bv oT oV pa) : wY_each_101 post (nI d) (nI f) (nI K) x4 x5 v.1 v.2 li to mo gi ut uv hgh cu de br th ot nm on yk ya yh yo yr y1 y2 fi ev it iv ph fr mi aT ed bt bv oT oV pa := by
  have cl : (nI d).toNatClampNeg = d := nI_clamp (by omega)
  have hi : vp_in (nI d) 64 := vp_in_nI (by omega) (by omega)
  have cl1 : (nI (d + 1)).toNatClampNeg = d + 1 := nI_clamp (by omega)
  have hi1 : vp_in (nI d + 1) 64 := by rw [nI_1]; exact vp_in_nI (by omega) (by omega)
  have key : wY_each_136 post (nI d) (nI f) (nI K) x4 x5 v.1 v.2 (nI (cnt + x)) (nI la) li to mo gi ut uv hgh cu de br th ot nm on yk ya yh yo yr y1 y2 fi ev it iv ph fr mi aT ed bt bv oT oV pa := by
    refine ⟨hi, ?_⟩
    by_cases hx : x = 0
    · refine br_t (by rw [cl, h5, hx]; exact Int32.le_refl _) ?_
      rw [h0 hx] at H ⊢; exact H
    · refine br_f (by rw [cl, h5]; exact nI_ge (by omega) hb) ⟨hi1, nm_r (e' := nI i) (by rw [nI_1, cl1]; exact h6 (by omega)) H⟩
  refine ⟨hi, nm_r (e' := nI (cnt + x)) (by rw [cl]; exact hat) ⟨hi, hi, nm_r (e' := nI la) (by rw [cl, hmi, h5, pk_sub (by omega), Nat.add_sub_cancel_left]) ?_⟩⟩
  rcases hK with rfl | rfl
  · exact br_t rfl key
  · exact br_f (by decide) (br_t rfl key)
theorem yq_n10 (hd : d < 62) (hC : C ≤ 8192) (hXC : X < C) (hXm : X < m) (hmC : m ≤ C) (hmi : mi d = nI m) (hat : aT d = nI X) (h1 : oT X = o.1) (h2 : oV X = o.2) (ho : aw_v o) (hN : nm = pg_n p) (H : post (li, to, mo, gi, ut, uv, hgh, nI C, nI (d + 1), 98, th, ot, nm, on, yk, ya, yh, yo, yr, y1, y2, upd fi (d + 1) (x4), upd ev (d + 1) (x5), upd it (d + 1) o.1, upd iv (d + 1) o.2, upd ph (d + 1) 0, upd fr (d + 1) (nI C), mi, upd aT d (nI (X + 1)), ed, bt, bv, oT, oV, pa)) : wY_each_164 post (nI d) (nI f) 10 x4 x5 v.1 v.2 (nI X) x9 li to mo gi ut uv hgh (nI C) (nI d) 98 1 (nI C) th ot nm on yk ya yh yo yr y1 y2 fi ev it iv ph fr mi aT ed bt bv oT oV pa := by
  have cl : (nI d).toNatClampNeg = d := nI_clamp (by omega)
  have hi : vp_in (nI d) 64 := vp_in_nI (by omega) (by omega)
  have clX : (nI X).toNatClampNeg = X := nI_clamp (by omega)
  have hiX : vp_in (nI X) 8192 := vp_in_nI (by omega) (by omega)
  refine br_t (Int32.le_refl _) (br_t rfl ⟨hi, br_f (by rw [cl, hmi]; exact nI_ge hXm (by omega)) (yq_numAt (o := o) (by omega) h1 h2 ho hN ⟨hi, hi, nm_r (e' := upd aT d (nI (X + 1))) (by rw [cl, hat, nI_1]) ?_⟩)⟩)
  refine br_t rfl ⟨hiX, hiX, ?_⟩
  rw [clX, h1, h2]
  exact yq_enter hd H
theorem yq_n13 (hd : d < 62) (hC : C ≤ 8192) (hXC : X < C) (hXm : X < m) (hmC : m ≤ C) (hmi : mi d = nI m) (hat : aT d = nI X) (h1 : oT X = o.1) (h2 : oV X = o.2) (ho : aw_v o) (hN : nm = pg_n p) (H : post (li, to, mo, gi, ut, uv, hgh, nI C, nI (d + 1), 98, th, ot, nm, on, yk, ya, yh, yo, yr, y1, y2, upd fi (d + 1) (x4), upd ev (d + 1) (nI d), upd it (d + 1) v.1, upd iv (d + 1) v.2, upd ph (d + 1) 0, upd fr (d + 1) (nI C), mi, upd aT d (nI (X + 1)), ed, upd bt d (ps_bv o).1, upd bv d (ps_bv o).2, oT, oV, pa)) : wY_each_164 post (nI d) (nI f) 13 x4 x5 v.1 v.2 (nI X) x9 li to mo gi ut uv hgh (nI C) (nI d) 98 1 (nI C) th ot nm on yk ya yh yo yr y1 y2 fi ev it iv ph fr mi aT ed bt bv oT oV pa := by
  have cl : (nI d).toNatClampNeg = d := nI_clamp (by omega)
  have hi : vp_in (nI d) 64 := vp_in_nI (by omega) (by omega)
  have clX : (nI X).toNatClampNeg = X := nI_clamp (by omega)
  have hiX : vp_in (nI X) 8192 := vp_in_nI (by omega) (by omega)
  refine br_t (Int32.le_refl _) (br_t rfl ⟨hi, br_f (by rw [cl, hmi]; exact nI_ge hXm (by omega)) (yq_numAt (o := o) (by omega) h1 h2 ho hN ⟨hi, hi, nm_r (e' := upd aT d (nI (X + 1))) (by rw [cl, hat, nI_1]) ?_⟩)⟩)
  have e1 : (ps_bv o).2 = o.2 := rfl
  rw [e1] at H
  have key : ∀ z, (ps_bv o).1 = z → wY_each_333 post (nI d) x4 v.1 v.2 (nI X) z (nI d) li to mo gi ut uv hgh (nI C) (nI d) 98 th ot nm on yk ya yh yo yr y1 y2 fi ev it iv ph fr mi (upd aT d (nI (X + 1))) ed bt bv oT oV pa := by
    intro z hz
    rw [hz] at H
    refine ⟨hi, nm_r (e' := upd bt d z) (by rw [cl]) ⟨hiX, hi, nm_r (e' := upd bv d o.2) (by rw [cl, clX, h2]) (yq_enter hd H)⟩⟩
  refine br_f (by decide) (br_t rfl ⟨hiX, br_c (fun hz => key 0 ?_) (fun hz => key 1 ?_)⟩)
  · rw [clX, h1] at hz
    show (if o.1 = 2 then 1 else o.1) = 0
    rw [hz]; decide
  · rw [clX, h1] at hz
    show (if o.1 = 2 then 1 else o.1) = 1
    rcases ho.1 with q | q | q
    · exact absurd q hz
    · rw [q]; decide
    · rw [q]; decide
theorem yq_n15 {K : Nat} (hK : K = 15 ∨ K = 16) (hd : d < 62) (hC : C ≤ 8192) (hXC : X < C) (hXm : X < m) (hmC : m ≤ C) (hmi : mi d = nI m) (hat : aT d = nI X) (h1 : oT X = o.1) (h2 : oV X = o.2) (ho : aw_v o) (hN : nm = pg_n p) (H : post (li, to, mo, gi, ut, uv, hgh, nI C, nI (d + 1), 98, th, ot, nm, on, yk, ya, yh, yo, yr, y1, y2, upd fi (d + 1) (x4), upd ev (d + 1) (x5), upd it (d + 1) v.1, upd iv (d + 1) v.2, upd ph (d + 1) 0, upd fr (d + 1) (nI C), mi, upd aT d (nI (X + 1)), ed, bt, bv, oT, oV, pa)) : wY_each_164 post (nI d) (nI f) (nI K) x4 x5 v.1 v.2 (nI X) x9 li to mo gi ut uv hgh (nI C) (nI d) 98 1 (nI C) th ot nm on yk ya yh yo yr y1 y2 fi ev it iv ph fr mi aT ed bt bv oT oV pa := by
  have cl : (nI d).toNatClampNeg = d := nI_clamp (by omega)
  have hi : vp_in (nI d) 64 := vp_in_nI (by omega) (by omega)
  have clX : (nI X).toNatClampNeg = X := nI_clamp (by omega)
  have hiX : vp_in (nI X) 8192 := vp_in_nI (by omega) (by omega)
  refine br_t (Int32.le_refl _) (br_t rfl ⟨hi, br_f (by rw [cl, hmi]; exact nI_ge hXm (by omega)) (yq_numAt (o := o) (by omega) h1 h2 ho hN ⟨hi, hi, nm_r (e' := upd aT d (nI (X + 1))) (by rw [cl, hat, nI_1]) ?_⟩)⟩)
  rcases hK with rfl | rfl
  · exact br_f (by decide) (br_f (by decide) (br_t rfl (br_f (by decide) (yq_enter hd H))))
  · exact br_f (by decide) (br_f (by decide) (br_f (by decide) (br_t rfl (br_f (by decide) (yq_enter hd H)))))
theorem yq_n17 {b b' : Nat} (hx4 : x4 = nI b) (hb : b' + 1 = f) (hd : d < 62) (hC : C ≤ 8192) (hXC : X < C) (hXm : X < m) (hmC : m ≤ C) (hmi : mi d = nI m) (hat : aT d = nI X) (h1 : oT X = o.1) (h2 : oV X = o.2) (ho : aw_v o) (hN : nm = pg_n p) (H : post (li, to, mo, gi, ut, uv, hgh, nI C, nI (d + 1), 98, th, ot, nm, on, yk, ya, yh, yo, yr, y1, y2, upd fi (d + 1) (nI (if ps_num p o = 0 then b' else b)), upd ev (d + 1) (x5), upd it (d + 1) v.1, upd iv (d + 1) v.2, upd ph (d + 1) 0, upd fr (d + 1) (nI C), mi, upd aT d (nI (X + 1)), ed, bt, bv, oT, oV, pa)) : wY_each_164 post (nI d) (nI f) 17 x4 x5 v.1 v.2 (nI X) x9 li to mo gi ut uv hgh (nI C) (nI d) 98 1 (nI C) th ot nm on yk ya yh yo yr y1 y2 fi ev it iv ph fr mi aT ed bt bv oT oV pa := by
  have cl : (nI d).toNatClampNeg = d := nI_clamp (by omega)
  have hi : vp_in (nI d) 64 := vp_in_nI (by omega) (by omega)
  have clX : (nI X).toNatClampNeg = X := nI_clamp (by omega)
  have hiX : vp_in (nI X) 8192 := vp_in_nI (by omega) (by omega)
  refine br_t (Int32.le_refl _) (br_t rfl ⟨hi, br_f (by rw [cl, hmi]; exact nI_ge hXm (by omega)) (yq_numAt (o := o) (by omega) h1 h2 ho hN ⟨hi, hi, nm_r (e' := upd aT d (nI (X + 1))) (by rw [cl, hat, nI_1]) ?_⟩)⟩)
  refine br_f (by decide) (br_f (by decide) (br_f (by decide) (br_f (by decide) (br_t rfl (br_t rfl (br_c (fun hz => ?_) (fun hz => ?_)))))))
  · rw [if_pos hz] at H
    have : nI f - 1 = nI b' := by rw [← hb, nI_pred]
    rw [this]; exact yq_enter hd H
  · rw [if_neg hz, ← hx4] at H
    exact yq_enter hd H
theorem yq_n8 (hCC : C < 8192) (h3 : it d = v.1) (h4 : iv d = v.2) (hd : d < 62) (hC : C ≤ 8192) (hXC : X < C) (hXm : X < m) (hmC : m ≤ C) (hmi : mi d = nI m) (hat : aT d = nI X) (h1 : oT X = o.1) (h2 : oV X = o.2) (ho : aw_v o) (hN : nm = pg_n p) (H : post (li, to, mo, gi, ut, uv, hgh, nI (C + (ps_key (ps_num p o) v).length), nI d, 98, th, ot, nm, on, yk, ya, yh, yo, yr, y1, y2, fi, ev, it, iv, ph, fr, mi, upd aT d (nI (X + 1)), ed, bt, bv, yr_pT oT C (ps_key (ps_num p o) v), yr_pV oV C (ps_key (ps_num p o) v), pa)) : wY_each_164 post (nI d) (nI f) 8 x4 x5 v.1 v.2 (nI X) x9 li to mo gi ut uv hgh (nI C) (nI d) 98 1 (nI C) th ot nm on yk ya yh yo yr y1 y2 fi ev it iv ph fr mi aT ed bt bv oT oV pa := by
  have cl : (nI d).toNatClampNeg = d := nI_clamp (by omega)
  have hi : vp_in (nI d) 64 := vp_in_nI (by omega) (by omega)
  have clX : (nI X).toNatClampNeg = X := nI_clamp (by omega)
  have hiX : vp_in (nI X) 8192 := vp_in_nI (by omega) (by omega)
  refine br_t (Int32.le_refl _) (br_t rfl ⟨hi, br_f (by rw [cl, hmi]; exact nI_ge hXm (by omega)) (yq_numAt (o := o) (by omega) h1 h2 ho hN ⟨hi, hi, nm_r (e' := upd aT d (nI (X + 1))) (by rw [cl, hat, nI_1]) ?_⟩)⟩)
  refine br_f (by decide) (br_f (by decide) (br_f (by decide) (br_f (by decide) (br_f (by decide) (br_t rfl (br_c (fun hz => ?_) (fun hz => br_c (fun hw => ?_) (fun hw => ?_))))))))
  · have : ps_key (ps_num p o) v = [] := if_pos hz
    rw [this] at H; exact H
  · have : ps_key (ps_num p o) v = [] := by unfold ps_key; rw [if_neg hz, if_pos hw]
    rw [this] at H; exact H
  · exact yq_key (v := v) (by omega) hCC h3 h4 hz hw H
theorem yq_n12 (hCC : C < 8192) (hd : d < 62) (hC : C ≤ 8192) (hXC : X < C) (hXm : X < m) (hmC : m ≤ C) (hmi : mi d = nI m) (hat : aT d = nI X) (h1 : oT X = o.1) (h2 : oV X = o.2) (ho : aw_v o) (hN : nm = pg_n p) (H : post (li, to, mo, gi, ut, uv, hgh, nI (C + ((ps_nz p o).1).length), nI d, 98, th, ot, nm, on, yk, ya, yh, yo, yr, y1, y2, fi, ev, it, iv, ph, fr, mi, upd aT d (nI (X + 1)), ed, bt, bv, yr_pT oT C ((ps_nz p o).1), yr_pV oV C ((ps_nz p o).1), pa)) : wY_each_164 post (nI d) (nI f) 12 x4 x5 v.1 v.2 (nI X) x9 li to mo gi ut uv hgh (nI C) (nI d) 98 1 (nI C) th ot nm on yk ya yh yo yr y1 y2 fi ev it iv ph fr mi aT ed bt bv oT oV pa := by
  have cl : (nI d).toNatClampNeg = d := nI_clamp (by omega)
  have hi : vp_in (nI d) 64 := vp_in_nI (by omega) (by omega)
  have clX : (nI X).toNatClampNeg = X := nI_clamp (by omega)
  have hiX : vp_in (nI X) 8192 := vp_in_nI (by omega) (by omega)
  refine br_t (Int32.le_refl _) (br_t rfl ⟨hi, br_f (by rw [cl, hmi]; exact nI_ge hXm (by omega)) (yq_numAt (o := o) (by omega) h1 h2 ho hN ⟨hi, hi, nm_r (e' := upd aT d (nI (X + 1))) (by rw [cl, hat, nI_1]) ?_⟩)⟩)
  refine br_f (by decide) (br_f (by decide) (br_f (by decide) (br_f (by decide) (br_f (by decide) (br_f (by decide) (br_t rfl (br_c (fun hz => ?_) (fun hz => ⟨hiX, hiX, ?_⟩))))))))
  · have : (ps_nz p o).1 = [] := if_pos hz
    rw [this] at H; exact H
  · have : (ps_nz p o).1 = [o] := if_neg hz
    rw [this] at H
    rw [clX, h1, h2]
    exact yq_emit hCC H
theorem yq_n9 {K : Nat} (hK : K = 9 ∨ K = 11 ∨ K = 14) (hCC : C < 8192) (hd : d < 62) (hC : C ≤ 8192) (hXC : X < C) (hXm : X < m) (hmC : m ≤ C) (hmi : mi d = nI m) (hat : aT d = nI X) (h1 : oT X = o.1) (h2 : oV X = o.2) (ho : aw_v o) (hN : nm = pg_n p) (H : post (li, to, mo, gi, ut, uv, hgh, nI (C + ([o]).length), nI d, 98, th, ot, nm, on, yk, ya, yh, yo, yr, y1, y2, fi, ev, it, iv, ph, fr, mi, upd aT d (nI (X + 1)), ed, bt, bv, yr_pT oT C ([o]), yr_pV oV C ([o]), pa)) : wY_each_164 post (nI d) (nI f) (nI K) x4 x5 v.1 v.2 (nI X) x9 li to mo gi ut uv hgh (nI C) (nI d) 98 1 (nI C) th ot nm on yk ya yh yo yr y1 y2 fi ev it iv ph fr mi aT ed bt bv oT oV pa := by
  have cl : (nI d).toNatClampNeg = d := nI_clamp (by omega)
  have hi : vp_in (nI d) 64 := vp_in_nI (by omega) (by omega)
  have clX : (nI X).toNatClampNeg = X := nI_clamp (by omega)
  have hiX : vp_in (nI X) 8192 := vp_in_nI (by omega) (by omega)
  refine br_t (Int32.le_refl _) (br_t rfl ⟨hi, br_f (by rw [cl, hmi]; exact nI_ge hXm (by omega)) (yq_numAt (o := o) (by omega) h1 h2 ho hN ⟨hi, hi, nm_r (e' := upd aT d (nI (X + 1))) (by rw [cl, hat, nI_1]) ?_⟩)⟩)
  have key : wY_each_449 post (nI X) li to mo gi ut uv hgh (nI C) (nI d) 98 th ot nm on yk ya yh yo yr y1 y2 fi ev it iv ph fr mi (upd aT d (nI (X + 1))) ed bt bv oT oV pa := by
    refine ⟨hiX, hiX, ?_⟩
    rw [clX, h1, h2]
    exact yq_emit hCC H
  rcases hK with rfl | rfl | rfl <;> exact br_f (by decide) (br_f (by decide) (br_f (by decide) (br_f (by decide) (br_f (by decide) (br_f (by decide) (br_f (by decide) key))))))
end
end
section
section
variable {p : PG} {iw : Nat → Nat → Nat} {T d f : Nat} {rs : List Nat} {v : PV} {x4 x5 : Int32} {post : SY → Prop} {li to mo gi ut uv hgh cu de br : Int32} {th ot nm on yk ya yh yo yr y1 y2 fi ev it iv ph fr mi aT ed bt bv oT oV pa : Nat → Int32}
theorem yq_over {K cnt la X C : Nat} {b0 : Int32} {l : List PV} (hd : d < 62) (hC : C ≤ 8192) (hl : cnt + la + l.length = C) (hX : X ≤ C) (cond : br ≠ 98 ∨ cnt + la ≤ X) (hmi : mi d = nI (cnt + la)) (hb : b0 = if br = 98 then ed d else br) (hs : yr_sg oT oV (cnt + la) l)
    (H : ∀ oT' oV', (∀ j, j < cnt → oT' j = oT j ∧ oV' j = oV j) → yr_sg oT' oV' cnt l → wY_each_564 post (nI d) (nI K) x4 x5 v.1 v.2 li to mo gi ut uv hgh (nI (cnt + l.length)) de b0 th ot nm on yk ya yh yo yr y1 y2 fi ev it iv (upd ph d 3) fr mi aT ed bt bv oT' oV' pa) : wY_each_164 post (nI d) (nI f) (nI K) x4 x5 v.1 v.2 (nI X) (nI la) li to mo gi ut uv hgh (nI C) de br 1 (nI C) th ot nm on yk ya yh yo yr y1 y2 fi ev it iv ph fr mi aT ed bt bv oT oV pa := by
  have cl : (nI d).toNatClampNeg = d := nI_clamp (by omega)
  have hi : vp_in (nI d) 64 := vp_in_nI (by omega) (by omega)
  have key : ∃ n, wY_each_478 post (nI d) (nI K) x4 x5 v.1 v.2 (nI la) li to mo gi ut uv hgh (nI C) de br n (nI (cnt + la)) th ot nm on yk ya yh yo yr y1 y2 fi ev it iv ph fr mi aT ed bt bv oT oV pa := by
    refine yq_shift hC rfl (Nat.le_add_left _ _) hs hl (fun oT' oV' ha hs' => ⟨1, ?_⟩)
    rw [Nat.add_sub_cancel] at ha hs'
    refine yq_478 (by omega) (by omega) hb ?_
    rw [show C - la = cnt + l.length by omega]
    exact H oT' oV' ha hs'
  refine br_t (Int32.le_refl _) ?_
  by_cases h98 : br = 98
  · have hm : cnt + la ≤ X := cond.resolve_left (fun z => z h98)
    exact br_t h98 ⟨hi, br_t (by rw [cl, hmi]; exact nI_le hm (by omega)) ⟨hi, nm_r (e' := nI (cnt + la)) (by rw [cl]; exact hmi) key⟩⟩
  · exact br_f h98 ⟨hi, nm_r (e' := nI (cnt + la)) (by rw [cl]; exact hmi) key⟩
theorem yq_fin {K cnt ln : Nat} {b1 : Int32} (hd : d < 62) (hK : K ≤ 17) (hfr : fr d = nI cnt) (hb : cnt + ln < 2 ^ 31) (hb1 : b1 = if K = 9 ∧ br = nI d then 98 else br)
    (HE : b1 = 98 → (K = 11 ∨ (K = 12 ∧ ln = 0)) → post (li, to, mo, gi, ut, uv, hgh, nI (cnt + ln), nI (d + 1), 98, th, ot, nm, on, yk, ya, yh, yo, yr, y1, y2, upd fi (d + 1) x4, upd ev (d + 1) x5, upd it (d + 1) v.1, upd iv (d + 1) v.2, upd ph (d + 1) 0, upd fr (d + 1) (nI (cnt + ln)), mi, aT, ed, bt, bv, oT, oV, pa))
    (HP : ¬ (b1 = 98 ∧ (K = 11 ∨ (K = 12 ∧ ln = 0))) → post (li, to, mo, gi, ut, uv, hgh, nI (cnt + ln), nI d, b1, th, ot, nm, on, yk, ya, yh, yo, yr, y1, y2, fi, ev, it, iv, ph, fr, mi, aT, ed, bt, bv, oT, oV, pa)) : wY_each_564 post (nI d) (nI K) x4 x5 v.1 v.2 li to mo gi ut uv hgh (nI (cnt + ln)) (nI d) br th ot nm on yk ya yh yo yr y1 y2 fi ev it iv ph fr mi aT ed bt bv oT oV pa := by
  have cl : (nI d).toNatClampNeg = d := nI_clamp (by omega)
  have hi : vp_in (nI d) 64 := vp_in_nI (by omega) (by omega)
  have key : ∀ b, b = b1 → wY_each_584 post (nI d) (nI K) x4 x5 v.1 v.2 li to mo gi ut uv hgh (nI (cnt + ln)) (nI d) b th ot nm on yk ya yh yo yr y1 y2 fi ev it iv ph fr mi aT ed bt bv oT oV pa := by
    intro b hbb
    rw [← hbb] at HE HP
    by_cases h98 : b = 98
    · refine br_t h98 ?_
      subst h98
      by_cases h11 : K = 11
      · exact br_t (by rw [h11]; rfl) (yq_enter hd (HE rfl (Or.inl h11)))
      · refine br_f (pb_ne (b := 11) (by omega) (by decide) h11) ?_
        by_cases h12 : K = 12
        · refine br_t (by rw [h12]; rfl) ⟨hi, ?_⟩
          by_cases h0 : ln = 0
          · exact br_t (by rw [cl, hfr, h0]; rfl) (yq_enter hd (HE rfl (Or.inr ⟨h12, h0⟩)))
          · refine br_f (by rw [cl, hfr]; exact pb_ne hb (by omega) (by omega)) (HP ?_)
            rintro ⟨_, q | q⟩
            · exact h11 q
            · exact h0 q.2
        · refine br_f (pb_ne (b := 12) (by omega) (by decide) h12) (HP ?_)
          rintro ⟨_, q | q⟩
          · exact h11 q
          · exact h12 q.1
    · exact br_f h98 (HP (fun z => h98 z.1))
  by_cases h9 : K = 9
  · refine br_t (by rw [h9]; rfl) (br_c (fun hz => key 98 ?_) (fun hz => key br ?_))
    · rw [hb1, if_pos ⟨h9, hz⟩]
    · rw [hb1, if_neg (fun q => hz q.2)]
  · refine br_f (pb_ne (b := 9) (by omega) (by decide) h9) (key br ?_)
    rw [hb1, if_neg (fun q => h9 q.1)]
end
/-! the loop of the reference's evaluate -/
def yr_st (li to mo gi ut uv hgh : Int32) (th ot nm on yk ya yh yo yr y1 y2 pa : Nat → Int32) (s : YM) : SY := (li, to, mo, gi, ut, uv, hgh, y_cu s, y_de s, y_br s, th, ot, nm, on, yk, ya, yh, yo, yr, y1, y2, y_fi s, y_ev s, y_it s, y_iv s, y_ph s, y_fr s, y_mi s, y_aT s, y_ed s, y_bt s, y_bv s, y_oT s, y_oV s, pa)
def yr_W (post : SY → Prop) (li to mo gi ut uv hgh : Int32) (th ot nm on yk ya yh yo yr y1 y2 pa : Nat → Int32) (t : Nat) (s : YM) : Prop := wY_evaluate_20 post (1000001 - t) (nI t) li to mo gi ut uv hgh (y_cu s) (y_de s) (y_br s) th ot nm on yk ya yh yo yr y1 y2 (y_fi s) (y_ev s) (y_it s) (y_iv s) (y_ph s) (y_fr s) (y_mi s) (y_aT s) (y_ed s) (y_bt s) (y_bv s) (y_oT s) (y_oV s) pa
def yr_V (post : SY → Prop) (li to mo gi ut uv hgh : Int32) (th ot nm on yk ya yh yo yr y1 y2 pa : Nat → Int32) (d f K : Nat) (x4 x5 : Int32) (v : PV) (t : Nat) (s : YM) : Prop :=
  ∀ P : SY → Prop, (∀ s', yr_W post li to mo gi ut uv hgh th ot nm on yk ya yh yo yr y1 y2 pa (t + 1) s' → P (yr_st li to mo gi ut uv hgh th ot nm on yk ya yh yo yr y1 y2 pa s')) → wY_each_101 P (nI d) (nI f) (nI K) x4 x5 v.1 v.2 li to mo gi ut uv hgh (y_cu s) (y_de s) (y_br s) th ot nm on yk ya yh yo yr y1 y2 (y_fi s) (y_ev s) (y_it s) (y_iv s) (y_ph s) (y_fr s) (y_mi s) (y_aT s) (y_ed s) (y_bt s) (y_bv s) (y_oT s) (y_oV s) pa
section
variable {post : SY → Prop} {li to mo gi ut uv hgh : Int32} {th ot nm on yk ya yh yo yr y1 y2 pa : Nat → Int32} {d t : Nat} {s : YM}
theorem yw_pop (h1 : t < 1000000) (hd : d < 64) (h2 : y_de s = nI d) (h3 : y_ph s d = 3) (H : yr_W post li to mo gi ut uv hgh th ot nm on yk ya yh yo yr y1 y2 pa (t + 1) (s.1, nI d - 1, s.2.2)) : yr_W post li to mo gi ut uv hgh th ot nm on yk ya yh yo yr y1 y2 pa t s := by
  have cl : (nI d).toNatClampNeg = d := nI_clamp (by omega)
  have hi : vp_in (nI d) 64 := vp_in_nI (by omega) (by omega)
  unfold yr_W at H ⊢
  rw [show 1000001 - (t + 1) = 1000000 - t by omega] at H
  rw [show 1000001 - t = (1000000 - t) + 1 by omega, h2]
  exact br_f (nI_ge (b := 1000000) h1 (by decide)) (br_f (nI_pos (by omega)) ⟨hi, br_f (by rw [cl, h3]; decide) ⟨hi, br_t (by rw [cl, h3]) (nm_e (nm_r (nI_1 t) H))⟩⟩)
theorem yw_beg (h1 : t < 1000000) (hd : d < 64) (h2 : y_de s = nI d) (h3 : y_ph s d = 0) (H : ∀ P : SY → Prop, (∀ s', yr_W post li to mo gi ut uv hgh th ot nm on yk ya yh yo yr y1 y2 pa (t + 1) s' → P (yr_st li to mo gi ut uv hgh th ot nm on yk ya yh yo yr y1 y2 pa s')) → wpY_begin P (yr_st li to mo gi ut uv hgh th ot nm on yk ya yh yo yr y1 y2 pa s) (nI d)) : yr_W post li to mo gi ut uv hgh th ot nm on yk ya yh yo yr y1 y2 pa t s := by
  have cl : (nI d).toNatClampNeg = d := nI_clamp (by omega)
  have hi : vp_in (nI d) 64 := vp_in_nI (by omega) (by omega)
  unfold yr_W
  rw [show 1000001 - t = (1000000 - t) + 1 by omega]
  refine br_f (nI_ge (b := 1000000) h1 (by decide)) (br_f (by rw [h2]; exact nI_pos (by omega)) ⟨by rw [h2]; exact hi, br_t (by rw [h2, cl, h3]) ?_⟩)
  rw [← h2] at H
  refine H _ (fun s' hw => ?_)
  refine nm_r (nI_1 t) ?_
  unfold yr_W at hw
  rw [show 1000001 - (t + 1) = 1000000 - t by omega] at hw
  exact hw
theorem yw_each (h1 : t < 1000000) (hd : d < 64) (h2 : y_de s = nI d) (h3 : y_ph s d = 1 ∨ y_ph s d = 2) (H : ∀ P : SY → Prop, (∀ s', yr_W post li to mo gi ut uv hgh th ot nm on yk ya yh yo yr y1 y2 pa (t + 1) s' → P (yr_st li to mo gi ut uv hgh th ot nm on yk ya yh yo yr y1 y2 pa s')) → wpY_each P (yr_st li to mo gi ut uv hgh th ot nm on yk ya yh yo yr y1 y2 pa s) (nI d)) : yr_W post li to mo gi ut uv hgh th ot nm on yk ya yh yo yr y1 y2 pa t s := by
  have cl : (nI d).toNatClampNeg = d := nI_clamp (by omega)
  have hi : vp_in (nI d) 64 := vp_in_nI (by omega) (by omega)
  have n0 : ¬ y_ph s d = 0 := by rcases h3 with h | h <;> rw [h] <;> decide
  have n3 : ¬ y_ph s d = 3 := by rcases h3 with h | h <;> rw [h] <;> decide
  unfold yr_W
  rw [show 1000001 - t = (1000000 - t) + 1 by omega]
  refine br_f (nI_ge (b := 1000000) h1 (by decide)) (br_f (by rw [h2]; exact nI_pos (by omega)) ⟨by rw [h2]; exact hi, br_f (by rw [h2, cl]; exact n0) ⟨by rw [h2]; exact hi, br_f (by rw [h2, cl]; exact n3) ?_⟩⟩)
  rw [← h2] at H
  refine H _ (fun s' hw => ?_)
  refine nm_r (nI_1 t) ?_
  unfold yr_W at hw
  rw [show 1000001 - (t + 1) = 1000000 - t by omega] at hw
  exact hw
end
/-- the loop over a's outputs, with nothing of the program in sight -/
theorem ys_loop {as : List PV} {za : Option Nat} {g : PV → PR} {cv : Option PV → PV → PV} {V : Nat → YM → Prop} {LI : Nat → Option PV → List PV → List PV → Option Nat → YM → Prop} {Fin : List PV → Option Nat → Prop} {B tE : Nat}
    (Hs : ∀ pre o os prev acc raw s t, as = pre ++ o :: os → LI pre.length prev acc raw none s → t + (os.length + 1) * (1 + B) ≤ tE → (∀ s' t', t' ≤ t + 1 + B → LI (pre.length + 1) (some o) (acc ++ raw.map (cv prev)) (g o).1 (g o).2 s' → V t' s') → V t s)
    (Ho : ∀ x prev acc raw zc s t, LI x prev acc raw zc s → (zc = none ∨ ∃ o, (g o).2 = zc) → (zc ≠ none ∨ x = as.length) → t ≤ tE → Fin (acc ++ raw.map (cv prev)) (if zc = none then za else zc) → V t s) :
    ∀ os pre prev acc raw zc s t, as = pre ++ os → LI pre.length prev acc raw zc s → (zc = none ∨ ∃ o, (g o).2 = zc) → t + os.length * (1 + B) ≤ tE →
      Fin (acc ++ raw.map (cv prev) ++ (if zc = none then (ps_bnd za (fun o => ((g o).1.map (cv (some o)), (g o).2)) os).1 else [])) (if zc = none then (ps_bnd za (fun o => ((g o).1.map (cv (some o)), (g o).2)) os).2 else zc) → V t s := by
  intro os
  induction os with
  | nil =>
    intro pre prev acc raw zc s t has hL hz0 ht hF
    refine Ho pre.length prev acc raw zc s t hL hz0 (Or.inr (by rw [has, List.append_nil])) (by simpa using ht) ?_
    have : (if zc = none then (ps_bnd za (fun o => ((g o).1.map (cv (some o)), (g o).2)) []).1 else []) = [] := by split <;> rfl
    rw [this, List.append_nil] at hF
    exact hF
  | cons o os ih =>
    intro pre prev acc raw zc s t has hL hz0 ht hF
    rw [List.length_cons] at ht
    cases zc with
    | some l =>
      refine Ho pre.length prev acc raw (some l) s t hL hz0 (Or.inl (by simp)) (by omega) ?_
      rw [if_neg (by simp), if_neg (by simp), List.append_nil] at hF
      rw [if_neg (by simp)]; exact hF
    | none =>
      refine Hs pre o os prev acc raw s t has hL ht (fun s' t' ht' hL' => ?_)
      have hl : pre.length + 1 = (pre ++ [o]).length := by rw [List.length_append]; rfl
      rw [hl] at hL'
      refine ih (pre ++ [o]) (some o) _ _ _ s' t' (by rw [has, List.append_assoc]; rfl) hL' (Or.inr ⟨o, rfl⟩) ?_ ?_
      · rw [Nat.add_mul, Nat.one_mul] at ht; omega
      · rw [if_pos rfl, if_pos rfl, ps_bnd, ps_sq] at hF
        dsimp only at hF
        by_cases hz : (g o).2 = none
        · rw [if_pos hz] at hF
          rw [if_pos hz, if_pos hz, List.append_assoc]; exact hF
        · rw [if_neg hz] at hF
          rw [if_neg hz, if_neg hz, List.append_nil]; exact hF
end
section
/-! ===== what holds each time the reference comes back to a filter with operands ===== -/
def yr_L0 (d f cnt : Nat) (rs : List Nat) (v : PV) (as : List PV) (zA : Int32) (s0 : YM) (Ob x : Nat) (acc raw : List PV) (zc : Option Nat) (s : YM) : Prop :=
  y_de s = nI d ∧ y_cu s = nI (cnt + as.length + acc.length + raw.length) ∧ y_br s = yr_z rs zc ∧ y_ph s d = 2 ∧ yr_fr d s0 s ∧ yr_F s d f rs v cnt ∧ y_mi s d = nI (cnt + as.length) ∧ y_aT s d = nI (cnt + x) ∧ y_ed s d = zA ∧ yr_sg (y_oT s) (y_oV s) cnt as ∧ yr_sg (y_oT s) (y_oV s) (cnt + as.length) (acc ++ raw) ∧ yr_ou cnt s0 s ∧ acc.length + raw.length ≤ x * Ob ∧ x ≤ as.length ∧ (∀ q, q ∈ raw → aw_v q)
def yr_c15 (d cnt : Nat) (as : List PV) (K x : Nat) (prev : Option PV) (acc raw : List PV) (s : YM) : Prop :=
  (K = 15 ∨ K = 16) → (x = 0 → raw = []) ∧ (0 < x → y_fr s (d + 1) = nI (cnt + as.length + acc.length) ∧ ∃ o pre post, prev = some o ∧ as = pre ++ o :: post ∧ x = pre.length + 1)
def yr_LI (d f cnt : Nat) (rs : List Nat) (v : PV) (as : List PV) (zA : Int32) (s0 : YM) (Ob K x : Nat) (prev : Option PV) (acc raw : List PV) (zc : Option Nat) (s : YM) : Prop :=
  yr_L0 d f cnt rs v as zA s0 Ob x acc raw zc s ∧ yr_c15 d cnt as K x prev acc raw s
def yr_cv (p : PG) (K : Nat) (prev : Option PV) (q : PV) : PV := if K = 15 ∨ K = 16 then (match prev with | none => q | some o => ps_cmb K (ps_num p o) (ps_num p q)) else q
theorem yr_cv_id {p : PG} {K : Nat} {prev : Option PV} {l : List PV} (h : ¬ (K = 15 ∨ K = 16)) : l.map (yr_cv p K prev) = l := by
  have : yr_cv p K prev = id := by funext q; unfold yr_cv; rw [if_neg h]; rfl
  rw [this, List.map_id]
theorem yr_cv_c {p : PG} {K : Nat} {o : PV} (h : K = 15 ∨ K = 16) : yr_cv p K (some o) = fun q => ps_cmb K (ps_num p o) (ps_num p q) := by
  funext q; unfold yr_cv; rw [if_pos h]
/-- the state with b's frame entered -/
def yr_en (s : YM) (d X C : Nat) (a b c w : Int32) (bt bv : Nat → Int32) : YM :=
  (nI C, nI (d + 1), 98, upd (y_fi s) (d + 1) a, upd (y_ev s) (d + 1) b, upd (y_it s) (d + 1) c, upd (y_iv s) (d + 1) w, upd (y_ph s) (d + 1) 0, upd (y_fr s) (d + 1) (nI C), y_mi s, upd (y_aT s) d (nI X), y_ed s, bt, bv, y_oT s, y_oV s)
/-- the state with outputs given -/
def yr_em (s : YM) (d X C : Nat) (l : List PV) : YM :=
  (nI (C + l.length), y_de s, y_br s, y_fi s, y_ev s, y_it s, y_iv s, y_ph s, y_fr s, y_mi s, upd (y_aT s) d (nI X), y_ed s, y_bt s, y_bv s, yr_pT (y_oT s) C l, yr_pV (y_oV s) C l)
section
variable {p : PG} {iw : Nat → Nat → Nat} {T d f cnt Ob K x : Nat} {rs : List Nat} {v : PV} {as acc : List PV} {zA : Int32} {s0 s : YM}
theorem yr_em_L {l : List PV} (h : yr_L0 d f cnt rs v as zA s0 Ob x acc [] none s) (hl : l.length ≤ Ob) (hx : x < as.length) (hv : ∀ q, q ∈ l → aw_v q) : yr_L0 d f cnt rs v as zA s0 Ob (x + 1) acc l none (yr_em s d (cnt + x + 1) (cnt + as.length + acc.length) l) := by
  obtain ⟨h1, h2, h3, h4, h5, h6, h7, h8, h9, h10, h11, h12, h13, h14, h15⟩ := h
  have hlo : ∀ j, j < cnt + as.length + acc.length → yr_pT (y_oT s) (cnt + as.length + acc.length) l j = y_oT s j ∧ yr_pV (y_oV s) (cnt + as.length + acc.length) l j = y_oV s j := fun j hj => ⟨yr_pT_lo hj, yr_pV_lo hj⟩
  rw [List.append_nil] at h11
  rw [List.length_nil] at h13
  refine ⟨h1, rfl, h3, h4, ?_, h6, h7, ?_, h9, ?_, ?_, ?_, ?_, by omega, hv⟩
  · intro j hj
    obtain ⟨k1, k2, k3, k4, k5, k6, k7, k8, k9, k10, k11⟩ := h5 j hj
    exact ⟨k1, k2, k3, k4, k5, k6, k7, (pb_u hj).trans k8, k9, k10, k11⟩
  · exact pk_us
  · exact yr_sg_ag (fun j _ hj => hlo j (by omega)) h10
  · refine yr_sg_app.mpr ⟨yr_sg_ag (fun j _ hj => hlo j (by omega)) h11, ?_⟩
    exact yr_p_sg
  · intro j hj
    exact ⟨(hlo j (by omega)).1.trans (h12 j hj).1, (hlo j (by omega)).2.trans (h12 j hj).2⟩
  · rw [Nat.add_mul, Nat.one_mul]; omega
theorem yr_en_L {l : List PV} {zb : Option Nat} {a b c w : Int32} {bt bv : Nat → Int32} {s' : YM} (h : yr_L0 d f cnt rs v as zA s0 Ob x acc [] none s) (hl : l.length ≤ Ob) (hx : x < as.length) (hv : ∀ q, q ∈ l → aw_v q) (hb : ∀ j, j < d → bt j = y_bt s j ∧ bv j = y_bv s j)
    (R : yr_R (d + 1) (cnt + as.length + acc.length) l (yr_z rs zb) (yr_en s d (cnt + x + 1) (cnt + as.length + acc.length) a b c w bt bv) s') : yr_L0 d f cnt rs v as zA s0 Ob (x + 1) acc l zb s' ∧ y_fr s' (d + 1) = nI (cnt + as.length + acc.length) := by
  obtain ⟨h1, h2, h3, h4, h5, h6, h7, h8, h9, h10, h11, h12, h13, h14, h15⟩ := h
  obtain ⟨r1, r2, r3, r4, r5, r6, r7⟩ := R
  rw [List.append_nil] at h11
  rw [List.length_nil] at h13
  have hd := r4 d (Nat.lt_succ_self d)
  have e1 : ∀ {g : Nat → Int32} {z : Int32}, upd g (d + 1) z d = g d := fun {g z} => pb_u (Nat.lt_succ_self d)
  obtain ⟨k1, k2, k3, k4, k5, k6, k7, k8, k9, k10, k11⟩ := hd
  refine ⟨⟨?_, r2, r3, ?_, ?_, ?_, ?_, ?_, ?_, ?_, ?_, ?_, ?_, by omega, hv⟩, r5⟩
  · rw [r1, nI_pred]
  · exact k5.trans (e1.trans h4)
  · intro j hj
    obtain ⟨q1, q2, q3, q4, q5, q6, q7, q8, q9, q10, q11⟩ := h5 j hj
    obtain ⟨m1, m2, m3, m4, m5, m6, m7, m8, m9, m10, m11⟩ := r4 j (Nat.lt_succ_of_lt hj)
    have e2 : ∀ {g : Nat → Int32} {z : Int32}, upd g (d + 1) z j = g j := fun {g z} => pb_u (Nat.lt_succ_of_lt hj)
    exact ⟨m1.trans (e2.trans q1), m2.trans (e2.trans q2), m3.trans (e2.trans q3), m4.trans (e2.trans q4), m5.trans (e2.trans q5), m6.trans (e2.trans q6), m7.trans q7, m8.trans ((pb_u hj).trans q8), m9.trans q9, m10.trans ((hb j hj).1.trans q10), m11.trans ((hb j hj).2.trans q11)⟩
  · exact ⟨k1.trans (e1.trans h6.1), k2.trans (e1.trans h6.2.1), k3.trans (e1.trans h6.2.2.1), k4.trans (e1.trans h6.2.2.2.1), k6.trans (e1.trans h6.2.2.2.2)⟩
  · exact k7.trans h7
  · exact k8.trans pk_us
  · exact k9.trans h9
  · exact yr_sg_ag (fun j _ hj => r7 j (by omega)) h10
  · exact yr_sg_app.mpr ⟨yr_sg_ag (fun j _ hj => r7 j (by omega)) h11, r6⟩
  · intro j hj
    exact ⟨(r7 j (by omega)).1.trans (h12 j hj).1, (r7 j (by omega)).2.trans (h12 j hj).2⟩
  · rw [Nat.add_mul, Nat.one_mul]; omega
end
/-- the statement for one filter -/
def ys_St (p : PG) (iw : Nat → Nat → Nat) (T : Nat) (W : Nat → YM → Prop) (N f : Nat) (e : PE) (v : PV) : Prop :=
  ∀ (d cnt : Nat) (rs : List Nat) (s : YM) (t : Nat), d + iw f (ps_pe iw e) ≤ 62 → cnt + tb_U (iw f (ps_pe iw e)) ≤ 8192 → t + tb_S (iw f (ps_pe iw e)) ≤ 999999 → yr_e p T (y_fi s) (y_ev s) (y_bt s) (y_bv s) e rs → (∀ r, r ∈ rs → r < d) → y_de s = nI d → y_cu s = nI cnt → y_ph s d = 0 → yr_F s d f rs v cnt →
    (∀ s' t', t' ≤ t + tb_S (iw f (ps_pe iw e)) → yr_R d cnt (ps_ev p N f e v).1 (yr_z rs (ps_ev p N f e v).2) s s' → W t' s') → W t s
section
variable {p : PG} {iw : Nat → Nat → Nat} {T d f cnt Ob K x t : Nat} {rs : List Nat} {v : PV} {as acc raw : List PV} {zc : Option Nat} {zA : Int32} {s0 s : YM} {post : SY → Prop} {li to mo gi ut uv hgh : Int32} {th ot nm on yk ya yh yo yr y1 y2 pa : Nat → Int32}
/-- V behind the conversion -/
def yr_V2 (post : SY → Prop) (li to mo gi ut uv hgh : Int32) (th ot nm on yk ya yh yo yr y1 y2 pa : Nat → Int32) (d f K X la : Nat) (x4 x5 : Int32) (v : PV) (t : Nat) (s : YM) : Prop :=
  ∀ P : SY → Prop, (∀ s', yr_W post li to mo gi ut uv hgh th ot nm on yk ya yh yo yr y1 y2 pa (t + 1) s' → P (yr_st li to mo gi ut uv hgh th ot nm on yk ya yh yo yr y1 y2 pa s')) → ∃ n, wY_each_164 P (nI d) (nI f) (nI K) x4 x5 v.1 v.2 (nI X) (nI la) li to mo gi ut uv hgh (y_cu s) (y_de s) (y_br s) n (y_cu s) th ot nm on yk ya yh yo yr y1 y2 (y_fi s) (y_ev s) (y_it s) (y_iv s) (y_ph s) (y_fr s) (y_mi s) (y_aT s) (y_ed s) (y_bt s) (y_bv s) (y_oT s) (y_oV s) pa
theorem ys_W2 (hT : T ≤ 32) (yp : yr_p p T yk ya y1 y2) (hf : f < T) (hd : d < 64) (ht : t < 1000000) (h : y_de s = nI d) (hp : y_ph s d = 2) (hF : yr_F s d f rs v cnt) (H : yr_V post li to mo gi ut uv hgh th ot nm on yk ya yh yo yr y1 y2 pa d f (pg_k p f) (y2 f) (yr_h rs) v t s) : yr_W post li to mo gi ut uv hgh th ot nm on yk ya yh yo yr y1 y2 pa t s :=
  yw_each ht hd h (Or.inr hp) (fun P hPP => yq_each2 hT yp hf hd hF.1 hF.2.1 hF.2.2.1 hF.2.2.2.1 hp (H P hPP))
theorem ys_cv {prev : Option PV} {x4 x5 : Int32} (hK : K ≤ 17) (hd : d < 62) (hN : nm = pg_n p) (hav : ∀ o, o ∈ as → aw_v o) (hC : cnt + as.length + as.length * Ob ≤ 8192) (hL : yr_LI d f cnt rs v as zA s0 Ob K x prev acc raw zc s)
    (H : ∀ s', yr_L0 d f cnt rs v as zA s0 Ob x (acc ++ raw.map (yr_cv p K prev)) [] zc s' → yr_V2 post li to mo gi ut uv hgh th ot nm on yk ya yh yo yr y1 y2 pa d f K (cnt + x) as.length x4 x5 v t s') : yr_V post li to mo gi ut uv hgh th ot nm on yk ya yh yo yr y1 y2 pa d f K x4 x5 v t s := by
  intro P hP
  obtain ⟨h0, hc⟩ := hL
  obtain ⟨h1, h2, h3, h4, h5, h6, h7, h8, h9, h10, h11, h12, h13, h14, h15⟩ := h0
  have hxO : x * Ob ≤ as.length * Ob := Nat.mul_le_mul_right _ h14
  by_cases hk : K = 15 ∨ K = 16
  · have hc := hc hk
    by_cases hx : x = 0
    · have hr := hc.1 hx
      subst hr
      have q := H s ⟨h1, h2.trans (congrArg nI (by simp)), h3, h4, h5, h6, h7, h8, h9, h10, by simpa using h11, h12, by simpa using h13, h14, h15⟩ P hP
      refine yq_101B (i := cnt + as.length + acc.length + ([] : List PV).length) hd hk (by omega) h6.2.2.2.2 h7 h8 (fun _ => h2) (fun z => by omega) ?_
      rw [h2] at q ⊢; exact q
    · obtain ⟨hfr, o, pre, po, hpo, has, hxp⟩ := hc.2 (by omega)
      subst hpo
      rw [yr_cv_c hk] at H
      have hg := yr_sg_get (o := o) (a := pre) (b := po) (n := cnt) (by rw [← has]; exact h10)
      have hsp := yr_sg_app.mp h11
      have ho : aw_v o := hav o (by rw [has]; simp)
      refine yq_101B (i := cnt + as.length + acc.length) hd hk (by omega) h6.2.2.2.2 h7 h8 (fun z => absurd z hx) (fun _ => hfr) ?_
      rw [show cnt + x = cnt + pre.length + 1 by omega]
      refine yq_conv (C := cnt + as.length + acc.length + raw.length) (o := o) hk hN ho (by omega) h2 (by omega) hg.1 hg.2 hsp.2 h15 rfl ?_
      intro oT' oV' ha hs'
      have q := H (y_cu s, y_de s, y_br s, y_fi s, y_ev s, y_it s, y_iv s, y_ph s, y_fr s, y_mi s, y_aT s, y_ed s, y_bt s, y_bv s, oT', oV') ⟨h1, h2.trans (congrArg nI (by simp; omega)), h3, h4, h5, h6, h7, h8, h9, yr_sg_ag (fun j _ hj => ha j (by omega)) h10, by
          rw [List.append_nil]
          exact yr_sg_app.mpr ⟨yr_sg_ag (fun j _ hj => ha j (by omega)) hsp.1, hs'⟩, fun j hj => ⟨(ha j (by omega)).1.trans (h12 j hj).1, (ha j (by omega)).2.trans (h12 j hj).2⟩, by simp; omega, h14, fun q hq => by cases hq⟩ P hP
      rw [show cnt + x = cnt + pre.length + 1 by omega] at q
      have h2' : y_cu (y_cu s, y_de s, y_br s, y_fi s, y_ev s, y_it s, y_iv s, y_ph s, y_fr s, y_mi s, y_aT s, y_ed s, y_bt s, y_bv s, oT', oV') = nI (cnt + as.length + acc.length + raw.length) := h2
      rw [h2'] at q
      rw [h2]
      exact q
  · rw [yr_cv_id hk] at H
    have q := H s ⟨h1, h2.trans (congrArg nI (by simp; omega)), h3, h4, h5, h6, h7, h8, h9, h10, by simpa using h11, h12, by simp; omega, h14, fun q hq => by cases hq⟩ P hP
    exact yq_101A (by omega) hK (by omega) (by omega) h6.2.2.2.2 h7 h8 q
end
end
section
section
variable {p : PG} {iw : Nat → Nat → Nat} {T d f cnt Ob t : Nat} {rs : List Nat} {v o : PV} {as acc raw pre os : List PV} {zc : Option Nat} {zA x4 x5 : Int32} {s0 s : YM} {post : SY → Prop} {li to mo gi ut uv hgh : Int32} {th ot nm on yk ya yh yo yr y1 y2 pa : Nat → Int32}
theorem ys_n8 (hCC : cnt + as.length + acc.length < 8192) (hd : d < 62) (hN : nm = pg_n p) (hC : cnt + as.length + acc.length ≤ 8192) (ho : aw_v o) (has : as = pre ++ o :: os) (hL : yr_L0 d f cnt rs v as zA s0 Ob pre.length acc [] none s) (H : yr_W post li to mo gi ut uv hgh th ot nm on yk ya yh yo yr y1 y2 pa (t + 1) (yr_em s d (cnt + pre.length + 1) (cnt + as.length + acc.length) (ps_key (ps_num p o) v))) : yr_V2 post li to mo gi ut uv hgh th ot nm on yk ya yh yo yr y1 y2 pa d f 8 (cnt + pre.length) as.length x4 x5 v t s := by
  intro P hP
  obtain ⟨h1, h2, h3, h4, h5, h6, h7, h8, h9, h10, h11, h12, h13, h14, h15⟩ := hL
  obtain ⟨cu, de, br, fi, ev, it, iv, ph, fr, mi, aT, ed, bt, bv, oT, oV⟩ := s
  have e1 : de = nI d := h1
  have e2 : cu = nI (cnt + as.length + acc.length) := h2
  have e3 : br = 98 := h3
  subst e1 e2 e3
  have hl : pre.length < as.length := by rw [has, List.length_append, List.length_cons]; omega
  have hg : oT (cnt + pre.length) = o.1 ∧ oV (cnt + pre.length) = o.2 := yr_sg_get (o := o) (a := pre) (b := os) (n := cnt) (by rw [← has]; exact h10)
  exact ⟨1, yq_n8 hCC h6.2.2.1 h6.2.2.2.1 hd hC (by omega) (m := cnt + as.length) (by omega) (by omega) h7 h8 hg.1 hg.2 ho hN (hP _ H)⟩
theorem ys_n12 (hCC : cnt + as.length + acc.length < 8192) (hd : d < 62) (hN : nm = pg_n p) (hC : cnt + as.length + acc.length ≤ 8192) (ho : aw_v o) (has : as = pre ++ o :: os) (hL : yr_L0 d f cnt rs v as zA s0 Ob pre.length acc [] none s) (H : yr_W post li to mo gi ut uv hgh th ot nm on yk ya yh yo yr y1 y2 pa (t + 1) (yr_em s d (cnt + pre.length + 1) (cnt + as.length + acc.length) ((ps_nz p o).1))) : yr_V2 post li to mo gi ut uv hgh th ot nm on yk ya yh yo yr y1 y2 pa d f 12 (cnt + pre.length) as.length x4 x5 v t s := by
  intro P hP
  obtain ⟨h1, h2, h3, h4, h5, h6, h7, h8, h9, h10, h11, h12, h13, h14, h15⟩ := hL
  obtain ⟨cu, de, br, fi, ev, it, iv, ph, fr, mi, aT, ed, bt, bv, oT, oV⟩ := s
  have e1 : de = nI d := h1
  have e2 : cu = nI (cnt + as.length + acc.length) := h2
  have e3 : br = 98 := h3
  subst e1 e2 e3
  have hl : pre.length < as.length := by rw [has, List.length_append, List.length_cons]; omega
  have hg : oT (cnt + pre.length) = o.1 ∧ oV (cnt + pre.length) = o.2 := yr_sg_get (o := o) (a := pre) (b := os) (n := cnt) (by rw [← has]; exact h10)
  exact ⟨1, yq_n12 hCC hd hC (by omega) (m := cnt + as.length) (by omega) (by omega) h7 h8 hg.1 hg.2 ho hN (hP _ H)⟩
theorem ys_n9 {K : Nat} (hK : K = 9 ∨ K = 11 ∨ K = 14) (hCC : cnt + as.length + acc.length < 8192) (hd : d < 62) (hN : nm = pg_n p) (hC : cnt + as.length + acc.length ≤ 8192) (ho : aw_v o) (has : as = pre ++ o :: os) (hL : yr_L0 d f cnt rs v as zA s0 Ob pre.length acc [] none s) (H : yr_W post li to mo gi ut uv hgh th ot nm on yk ya yh yo yr y1 y2 pa (t + 1) (yr_em s d (cnt + pre.length + 1) (cnt + as.length + acc.length) ([o]))) : yr_V2 post li to mo gi ut uv hgh th ot nm on yk ya yh yo yr y1 y2 pa d f K (cnt + pre.length) as.length x4 x5 v t s := by
  intro P hP
  obtain ⟨h1, h2, h3, h4, h5, h6, h7, h8, h9, h10, h11, h12, h13, h14, h15⟩ := hL
  obtain ⟨cu, de, br, fi, ev, it, iv, ph, fr, mi, aT, ed, bt, bv, oT, oV⟩ := s
  have e1 : de = nI d := h1
  have e2 : cu = nI (cnt + as.length + acc.length) := h2
  have e3 : br = 98 := h3
  subst e1 e2 e3
  have hl : pre.length < as.length := by rw [has, List.length_append, List.length_cons]; omega
  have hg : oT (cnt + pre.length) = o.1 ∧ oV (cnt + pre.length) = o.2 := yr_sg_get (o := o) (a := pre) (b := os) (n := cnt) (by rw [← has]; exact h10)
  exact ⟨1, yq_n9 hK hCC hd hC (by omega) (m := cnt + as.length) (by omega) (by omega) h7 h8 hg.1 hg.2 ho hN (hP _ H)⟩
theorem ys_n10 (hd : d < 62) (hN : nm = pg_n p) (hC : cnt + as.length + acc.length ≤ 8192) (ho : aw_v o) (has : as = pre ++ o :: os) (hL : yr_L0 d f cnt rs v as zA s0 Ob pre.length acc [] none s) (H : yr_W post li to mo gi ut uv hgh th ot nm on yk ya yh yo yr y1 y2 pa (t + 1) (yr_en s d (cnt + pre.length + 1) (cnt + as.length + acc.length) x4 x5 o.1 o.2 (y_bt s) (y_bv s))) : yr_V2 post li to mo gi ut uv hgh th ot nm on yk ya yh yo yr y1 y2 pa d f 10 (cnt + pre.length) as.length x4 x5 v t s := by
  intro P hP
  obtain ⟨h1, h2, h3, h4, h5, h6, h7, h8, h9, h10, h11, h12, h13, h14, h15⟩ := hL
  obtain ⟨cu, de, br, fi, ev, it, iv, ph, fr, mi, aT, ed, bt, bv, oT, oV⟩ := s
  have e1 : de = nI d := h1
  have e2 : cu = nI (cnt + as.length + acc.length) := h2
  have e3 : br = 98 := h3
  subst e1 e2 e3
  have hl : pre.length < as.length := by rw [has, List.length_append, List.length_cons]; omega
  have hg : oT (cnt + pre.length) = o.1 ∧ oV (cnt + pre.length) = o.2 := yr_sg_get (o := o) (a := pre) (b := os) (n := cnt) (by rw [← has]; exact h10)
  exact ⟨1, yq_n10 hd hC (by omega) (m := cnt + as.length) (by omega) (by omega) h7 h8 hg.1 hg.2 ho hN (hP _ H)⟩
theorem ys_n13 (hd : d < 62) (hN : nm = pg_n p) (hC : cnt + as.length + acc.length ≤ 8192) (ho : aw_v o) (has : as = pre ++ o :: os) (hL : yr_L0 d f cnt rs v as zA s0 Ob pre.length acc [] none s) (H : yr_W post li to mo gi ut uv hgh th ot nm on yk ya yh yo yr y1 y2 pa (t + 1) (yr_en s d (cnt + pre.length + 1) (cnt + as.length + acc.length) x4 (nI d) v.1 v.2 (upd (y_bt s) d (ps_bv o).1) (upd (y_bv s) d (ps_bv o).2))) : yr_V2 post li to mo gi ut uv hgh th ot nm on yk ya yh yo yr y1 y2 pa d f 13 (cnt + pre.length) as.length x4 x5 v t s := by
  intro P hP
  obtain ⟨h1, h2, h3, h4, h5, h6, h7, h8, h9, h10, h11, h12, h13, h14, h15⟩ := hL
  obtain ⟨cu, de, br, fi, ev, it, iv, ph, fr, mi, aT, ed, bt, bv, oT, oV⟩ := s
  have e1 : de = nI d := h1
  have e2 : cu = nI (cnt + as.length + acc.length) := h2
  have e3 : br = 98 := h3
  subst e1 e2 e3
  have hl : pre.length < as.length := by rw [has, List.length_append, List.length_cons]; omega
  have hg : oT (cnt + pre.length) = o.1 ∧ oV (cnt + pre.length) = o.2 := yr_sg_get (o := o) (a := pre) (b := os) (n := cnt) (by rw [← has]; exact h10)
  exact ⟨1, yq_n13 hd hC (by omega) (m := cnt + as.length) (by omega) (by omega) h7 h8 hg.1 hg.2 ho hN (hP _ H)⟩
theorem ys_n15 {K : Nat} (hK : K = 15 ∨ K = 16) (hd : d < 62) (hN : nm = pg_n p) (hC : cnt + as.length + acc.length ≤ 8192) (ho : aw_v o) (has : as = pre ++ o :: os) (hL : yr_L0 d f cnt rs v as zA s0 Ob pre.length acc [] none s) (H : yr_W post li to mo gi ut uv hgh th ot nm on yk ya yh yo yr y1 y2 pa (t + 1) (yr_en s d (cnt + pre.length + 1) (cnt + as.length + acc.length) x4 x5 v.1 v.2 (y_bt s) (y_bv s))) : yr_V2 post li to mo gi ut uv hgh th ot nm on yk ya yh yo yr y1 y2 pa d f K (cnt + pre.length) as.length x4 x5 v t s := by
  intro P hP
  obtain ⟨h1, h2, h3, h4, h5, h6, h7, h8, h9, h10, h11, h12, h13, h14, h15⟩ := hL
  obtain ⟨cu, de, br, fi, ev, it, iv, ph, fr, mi, aT, ed, bt, bv, oT, oV⟩ := s
  have e1 : de = nI d := h1
  have e2 : cu = nI (cnt + as.length + acc.length) := h2
  have e3 : br = 98 := h3
  subst e1 e2 e3
  have hl : pre.length < as.length := by rw [has, List.length_append, List.length_cons]; omega
  have hg : oT (cnt + pre.length) = o.1 ∧ oV (cnt + pre.length) = o.2 := yr_sg_get (o := o) (a := pre) (b := os) (n := cnt) (by rw [← has]; exact h10)
  exact ⟨1, yq_n15 hK hd hC (by omega) (m := cnt + as.length) (by omega) (by omega) h7 h8 hg.1 hg.2 ho hN (hP _ H)⟩
theorem ys_n17 {b b' : Nat} (hx4 : x4 = nI b) (hb : b' + 1 = f) (hd : d < 62) (hN : nm = pg_n p) (hC : cnt + as.length + acc.length ≤ 8192) (ho : aw_v o) (has : as = pre ++ o :: os) (hL : yr_L0 d f cnt rs v as zA s0 Ob pre.length acc [] none s) (H : yr_W post li to mo gi ut uv hgh th ot nm on yk ya yh yo yr y1 y2 pa (t + 1) (yr_en s d (cnt + pre.length + 1) (cnt + as.length + acc.length) (nI (if ps_num p o = 0 then b' else b)) x5 v.1 v.2 (y_bt s) (y_bv s))) : yr_V2 post li to mo gi ut uv hgh th ot nm on yk ya yh yo yr y1 y2 pa d f 17 (cnt + pre.length) as.length x4 x5 v t s := by
  intro P hP
  obtain ⟨h1, h2, h3, h4, h5, h6, h7, h8, h9, h10, h11, h12, h13, h14, h15⟩ := hL
  obtain ⟨cu, de, br, fi, ev, it, iv, ph, fr, mi, aT, ed, bt, bv, oT, oV⟩ := s
  have e1 : de = nI d := h1
  have e2 : cu = nI (cnt + as.length + acc.length) := h2
  have e3 : br = 98 := h3
  subst e1 e2 e3
  have hl : pre.length < as.length := by rw [has, List.length_append, List.length_cons]; omega
  have hg : oT (cnt + pre.length) = o.1 ∧ oV (cnt + pre.length) = o.2 := yr_sg_get (o := o) (a := pre) (b := os) (n := cnt) (by rw [← has]; exact h10)
  exact ⟨1, yq_n17 hx4 hb hd hC (by omega) (m := cnt + as.length) (by omega) (by omega) h7 h8 hg.1 hg.2 ho hN (hP _ H)⟩
theorem yr_lf_lt : ∀ {rs : List Nat} {l : Nat}, (∀ r, r ∈ rs → r < 64) → yr_lf rs l < 64
  | [], _, _ => by rw [yr_lf]; decide
  | r :: rs, l, h => by
    rw [yr_lf]; split
    · exact h r List.mem_cons_self
    · exact yr_lf_lt (fun z hz => h z (List.mem_cons_of_mem _ hz))
theorem yr_z_98 {rs : List Nat} (h : ∀ r, r ∈ rs → r < 64) : ∀ {z : Option Nat}, yr_z rs z = 98 ↔ z = none
  | none => ⟨fun _ => rfl, fun _ => rfl⟩
  | some l => by
    refine ⟨fun q => ?_, fun q => by cases q⟩
    exfalso
    have q' : (if l = 0 then (99 : Int32) else nI (yr_lf rs l)) = 98 := q
    by_cases h0 : l = 0
    · rw [if_pos h0] at q'; exact absurd q' (by decide)
    · rw [if_neg h0] at q'
      have hl := yr_lf_lt (l := l) h
      exact pb_ne (b := 98) (show yr_lf rs l < 2 ^ 31 by omega) (by decide) (by omega) q'
/-- the list of a is through: with no more to enter -/
theorem ys_ovP {K x : Nat} {b1 : Int32} (hK : K ≤ 17) (hd : d < 62) (ht : t + 1 < 1000000) (hC : cnt + as.length + acc.length ≤ 8192) (hr : ∀ r, r ∈ rs → r < d) (hL : yr_L0 d f cnt rs v as zA s0 Ob x acc [] zc s) (cond : zc ≠ none ∨ x = as.length)
    (hb1 : b1 = if K = 9 ∧ (if zc = none then zA else yr_z rs zc) = nI d then 98 else (if zc = none then zA else yr_z rs zc))
    (hno : ¬ (b1 = 98 ∧ (K = 11 ∨ (K = 12 ∧ acc.length = 0))))
    (H : ∀ s', yr_R d cnt acc b1 s0 s' → yr_W post li to mo gi ut uv hgh th ot nm on yk ya yh yo yr y1 y2 pa (t + 2) s') : yr_V2 post li to mo gi ut uv hgh th ot nm on yk ya yh yo yr y1 y2 pa d f K (cnt + x) as.length x4 x5 v t s := by
  intro P hP
  obtain ⟨h1, h2, h3, h4, h5, h6, h7, h8, h9, h10, h11, h12, h13, h14, h15⟩ := hL
  rw [List.append_nil] at h11
  have hr' : ∀ r, r ∈ rs → r < 64 := fun r h => Nat.lt_trans (hr r h) (by omega)
  have hz98 := yr_z_98 hr' (z := zc)
  obtain ⟨cu, de, br, fi, ev, it, iv, ph, fr, mi, aT, ed, bt, bv, oT, oV⟩ := s
  have e1 : de = nI d := h1
  have e2 : cu = nI (cnt + as.length + acc.length) := h2
  have e3 : br = yr_z rs zc := h3
  have e9 : ed d = zA := h9
  subst e1 e2 e3
  refine ⟨1, yq_over (cnt := cnt) (b0 := if zc = none then zA else yr_z rs zc) hd hC rfl (by omega) ?_ h7 ?_ h11 (fun oT' oV' ha hs' => ?_)⟩
  · rcases cond with c | c
    · exact Or.inl (fun z => c (hz98.mp z))
    · exact Or.inr (by omega)
  · show (if zc = none then zA else yr_z rs zc) = if yr_z rs zc = 98 then ed d else yr_z rs zc
    rw [e9]
    by_cases hzc : zc = none
    · rw [if_pos hzc, if_pos (hz98.mpr hzc)]
    · rw [if_neg hzc, if_neg (fun z => hzc (hz98.mp z))]
  · refine yq_fin hd hK h6.2.2.2.2 (by omega) hb1 (fun q1 q2 => absurd ⟨q1, q2⟩ hno) (fun _ => hP (nI (cnt + acc.length), nI d, b1, fi, ev, it, iv, upd ph d 3, fr, mi, aT, ed, bt, bv, oT', oV') ?_)
    refine yw_pop (by omega) (by omega) rfl pk_us (H _ ?_)
    refine ⟨rfl, rfl, rfl, fun j hj => ?_, h6.2.2.2.2, hs', fun j hj => ⟨(ha j hj).1.trans (h12 j hj).1, (ha j hj).2.trans (h12 j hj).2⟩⟩
    obtain ⟨k1, k2, k3, k4, k5, k6, k7, k8, k9, k10, k11⟩ := h5 j hj
    exact ⟨k1, k2, k3, k4, (pb_u hj).trans k5, k6, k7, k8, k9, k10, k11⟩
/-- the list of a is through, and b follows -/
theorem ys_ovE {K x N b : Nat} {e : PE} (hK : K = 11 ∨ (K = 12 ∧ acc.length = 0)) (hx4 : x4 = nI b) (hx5 : x5 = yr_h rs) (IB : ys_St p iw T (yr_W post li to mo gi ut uv hgh th ot nm on yk ya yh yo yr y1 y2 pa) N b e v) (hd : d + 1 + iw b (ps_pe iw e) ≤ 62) (hU : cnt + acc.length + tb_U (iw b (ps_pe iw e)) ≤ 8192) (ht : t + 1 + tb_S (iw b (ps_pe iw e)) ≤ 999999) (hC : cnt + as.length + acc.length ≤ 8192) (hr : ∀ r, r ∈ rs → r < d) (hE : yr_e p T (y_fi s0) (y_ev s0) (y_bt s0) (y_bv s0) e rs) (hL : yr_L0 d f cnt rs v as zA s0 Ob x acc [] zc s) (cond : zc ≠ none ∨ x = as.length)
    (hb1 : (if zc = none then zA else yr_z rs zc) = 98)
    (H : ∀ s' t', t' ≤ t + 2 + tb_S (iw b (ps_pe iw e)) → yr_R d cnt (acc ++ (ps_ev p N b e v).1) (yr_z rs (ps_ev p N b e v).2) s0 s' → yr_W post li to mo gi ut uv hgh th ot nm on yk ya yh yo yr y1 y2 pa t' s') : yr_V2 post li to mo gi ut uv hgh th ot nm on yk ya yh yo yr y1 y2 pa d f K (cnt + x) as.length x4 x5 v t s := by
  intro P hP
  obtain ⟨h1, h2, h3, h4, h5, h6, h7, h8, h9, h10, h11, h12, h13, h14, h15⟩ := hL
  rw [List.append_nil] at h11
  have hr' : ∀ r, r ∈ rs → r < 64 := fun r h => Nat.lt_trans (hr r h) (by omega)
  have hz98 := yr_z_98 hr' (z := zc)
  have hE1 := yr_e_fr h5 hr hE
  obtain ⟨cu, de, br, fi, ev, it, iv, ph, fr, mi, aT, ed, bt, bv, oT, oV⟩ := s
  have e1 : de = nI d := h1
  have e2 : cu = nI (cnt + as.length + acc.length) := h2
  have e3 : br = yr_z rs zc := h3
  have e9 : ed d = zA := h9
  subst e1 e2 e3
  refine ⟨1, yq_over (cnt := cnt) (b0 := if zc = none then zA else yr_z rs zc) (by omega) hC rfl (by omega) ?_ h7 ?_ h11 (fun oT' oV' ha hs' => ?_)⟩
  · rcases cond with c | c
    · exact Or.inl (fun z => c (hz98.mp z))
    · exact Or.inr (by omega)
  · show (if zc = none then zA else yr_z rs zc) = if yr_z rs zc = 98 then ed d else yr_z rs zc
    rw [e9]
    by_cases hzc : zc = none
    · rw [if_pos hzc, if_pos (hz98.mpr hzc)]
    · rw [if_neg hzc, if_neg (fun z => hzc (hz98.mp z))]
  · refine yq_fin (b1 := 98) (by omega) (by omega) h6.2.2.2.2 (by omega) ?_ (fun _ _ => hP (nI (cnt + acc.length), nI (d + 1), 98, upd fi (d + 1) x4, upd ev (d + 1) x5, upd it (d + 1) v.1, upd iv (d + 1) v.2, upd (upd ph d 3) (d + 1) 0, upd fr (d + 1) (nI (cnt + acc.length)), mi, aT, ed, bt, bv, oT', oV') ?_) (fun q => absurd ⟨rfl, hK⟩ q)
    · rw [hb1]; split <;> rfl
    have e4 : ∀ {g : Nat → Int32} {z : Int32} {j : Nat}, j < d → upd g (d + 1) z j = g j := fun {g z j} hj => pb_u (Nat.lt_succ_of_lt hj)
    refine IB (d + 1) (cnt + acc.length) rs _ (t + 1) (by omega) hU ht (yr_e_ag (fun j hj => ⟨e4 hj, e4 hj, rfl, rfl⟩) hr hE1) (fun r h => Nat.lt_succ_of_lt (hr r h)) rfl rfl pk_us ⟨pk_us.trans hx4, pk_us.trans hx5, pk_us, pk_us, pk_us⟩ (fun s' t' ht' R => ?_)
    obtain ⟨r1, r2, r3, r4, r5, r6, r7⟩ := R
    have k5 := (r4 d (Nat.lt_succ_self d)).2.2.2.2.1
    have k6 := (r4 d (Nat.lt_succ_self d)).2.2.2.2.2.1
    have e5 : ∀ {g : Nat → Int32} {z : Int32}, upd g (d + 1) z d = g d := fun {g z} => pb_u (Nat.lt_succ_self d)
    refine yw_pop (d := d) (by omega) (by omega) (by rw [r1, nI_pred]) (k5.trans (e5.trans pk_us)) (H _ (t' + 1) (by omega) ?_)
    refine ⟨rfl, r2.trans (congrArg nI (by rw [List.length_append]; omega)), r3, fun j hj => ?_, k6.trans (e5.trans h6.2.2.2.2), yr_sg_app.mpr ⟨yr_sg_ag (fun j _ hj => r7 j hj) hs', r6⟩, fun j hj => ?_⟩
    · obtain ⟨k1, k2, k3, k4, k5, k6, k7, k8, k9, k10, k11⟩ := h5 j hj
      obtain ⟨m1, m2, m3, m4, m5, m6, m7, m8, m9, m10, m11⟩ := r4 j (Nat.lt_succ_of_lt hj)
      exact ⟨m1.trans ((e4 hj).trans k1), m2.trans ((e4 hj).trans k2), m3.trans ((e4 hj).trans k3), m4.trans ((e4 hj).trans k4), m5.trans ((e4 hj).trans ((pb_u hj).trans k5)), m6.trans ((e4 hj).trans k6), m7.trans k7, m8.trans k8, m9.trans k9, m10.trans k10, m11.trans k11⟩
    · exact ⟨(r7 j (by omega)).1.trans ((ha j hj).1.trans (h12 j hj).1), (r7 j (by omega)).2.trans ((ha j hj).2.trans (h12 j hj).2)⟩
end
end
section
section
variable {p : PG} {iw : Nat → Nat → Nat} {T d f cnt Ob t N : Nat} {rs : List Nat} {v o : PV} {as acc raw pre os : List PV} {prev : Option PV} {zA : Int32} {s0 s : YM} {post : SY → Prop} {li to mo gi ut uv hgh : Int32} {th ot nm on yk ya yh yo yr y1 y2 pa : Nat → Int32}
theorem ys_pre {e eA : PE} {rsA : List Nat} (ok : ps_ok p iw T) (yp : yr_p p T yk ya y1 y2) (ar : ps_ar p T) (hf : f < T) (hk : 8 ≤ pg_k p f)
    (hA : ((pg_k p f = 9 ∨ pg_k p f = 14) ∧ rsA = d :: rs ∧ ∃ x, eA = x :: e ∧ x.1 = pg_k p f ∧ (x.1 = 14 → x.2.1 = nI (pg_2 p f))) ∨ (¬ (pg_k p f = 9 ∨ pg_k p f = 14) ∧ rsA = rs ∧ eA = e))
    (IA : ys_St p iw T (yr_W post li to mo gi ut uv hgh th ot nm on yk ya yh yo yr y1 y2 pa) N (pg_1 p f) eA v) (hd : d + 1 + iw (pg_1 p f) (ps_pe iw eA) ≤ 62) (hU : cnt + tb_U (iw (pg_1 p f) (ps_pe iw eA)) ≤ 8192) (ht : t + 1 + tb_S (iw (pg_1 p f) (ps_pe iw eA)) ≤ 999999)
    (hE : yr_e p T (y_fi s) (y_ev s) (y_bt s) (y_bv s) e rs) (hr : ∀ r, r ∈ rs → r < d) (h1 : y_de s = nI d) (h2 : y_cu s = nI cnt) (h3 : y_ph s d = 0) (hF : yr_F s d f rs v cnt)
    (H : ∀ s3 t3, t3 ≤ t + 1 + tb_S (iw (pg_1 p f) (ps_pe iw eA)) → yr_LI d f cnt rs v (ps_ev p N (pg_1 p f) eA v).1 (yr_z rsA (ps_ev p N (pg_1 p f) eA v).2) s Ob (pg_k p f) 0 none [] [] none s3 → yr_V post li to mo gi ut uv hgh th ot nm on yk ya yh yo yr y1 y2 pa d f (pg_k p f) (y2 f) (yr_h rs) v t3 s3) : yr_W post li to mo gi ut uv hgh th ot nm on yk ya yh yo yr y1 y2 pa t s := by
  obtain ⟨cu, de, br, fi, ev, it, iv, ph, fr, mi, aT, ed, bt, bv, oT, oV⟩ := s
  have e1 : de = nI d := h1
  have e2 : cu = nI cnt := h2
  subst e1 e2
  obtain ⟨f1, f2, f3, f4, f5⟩ := hF
  refine yw_beg (by omega) (by omega) h1 h3 (fun P hP => yq_first ok.1 yp ar ok hf (by omega) hk f1 f2 f3 f4 hE hr (hP (nI cnt, nI (d + 1), 98, upd fi (d + 1) (nI (pg_1 p f)), upd ev (d + 1) (if pg_k p f = 9 ∨ pg_k p f = 14 then nI d else yr_h rs), upd it (d + 1) v.1, upd iv (d + 1) v.2, upd (upd ph d 1) (d + 1) 0, upd fr (d + 1) (nI cnt), mi, aT, ed, bt, bv, oT, oV) ?_))
  have e4 : ∀ {g : Nat → Int32} {z : Int32} {j : Nat}, j < d → upd g (d + 1) z j = g j := fun {g z j} hj => pb_u (Nat.lt_succ_of_lt hj)
  have e5 : ∀ {g : Nat → Int32} {z : Int32}, upd g (d + 1) z d = g d := fun {g z} => pb_u (Nat.lt_succ_self d)
  have hE1 : yr_e p T (upd fi (d + 1) (nI (pg_1 p f))) (upd ev (d + 1) (if pg_k p f = 9 ∨ pg_k p f = 14 then nI d else yr_h rs)) bt bv e rs := yr_e_ag (fun j hj => ⟨e4 hj, e4 hj, rfl, rfl⟩) hr hE
  have hEA : yr_e p T (upd fi (d + 1) (nI (pg_1 p f))) (upd ev (d + 1) (if pg_k p f = 9 ∨ pg_k p f = 14 then nI d else yr_h rs)) bt bv eA rsA ∧ (∀ r, r ∈ rsA → r < d + 1) ∧ (if pg_k p f = 9 ∨ pg_k p f = 14 then nI d else yr_h rs) = yr_h rsA := by
    rcases hA with ⟨c, hrs, x, hx, hx1, hx2⟩ | ⟨c, hrs, hx⟩
    · subst hrs hx
      refine ⟨⟨f, hf, e5.trans f1, hx1.symm, by omega, fun z => by omega, hx2, e5.trans f2, hr, hE1⟩, fun r h => ?_, by rw [if_pos c]; rfl⟩
      rcases List.mem_cons.mp h with rfl | h
      · omega
      · have := hr r h; omega
    · subst hrs hx
      exact ⟨hE1, fun r h => Nat.lt_succ_of_lt (hr r h), by rw [if_neg c]⟩
  refine IA (d + 1) cnt rsA _ (t + 1) (by omega) hU ht hEA.1 hEA.2.1 rfl rfl pk_us ⟨pk_us, pk_us.trans hEA.2.2, pk_us, pk_us, pk_us⟩ (fun s2 t2 ht2 R => ?_)
  obtain ⟨r1, r2, r3, r4, r5, r6, r7⟩ := R
  obtain ⟨k1, k2, k3, k4, k5, k6, k7, k8, k9, k10, k11⟩ := r4 d (Nat.lt_succ_self d)
  have g1 : y_fi s2 d = nI f := k1.trans (e5.trans f1)
  have g2 : y_ev s2 d = yr_h rs := k2.trans (e5.trans f2)
  have g3 : y_it s2 d = v.1 := k3.trans (e5.trans f3)
  have g4 : y_iv s2 d = v.2 := k4.trans (e5.trans f4)
  have g5 : y_fr s2 d = nI cnt := k6.trans (e5.trans f5)
  have g6 : y_ph s2 d = 1 := k5.trans (e5.trans pk_us)
  refine yw_each (d := d) (by omega) (by omega) (by rw [r1, nI_pred]) (Or.inl g6) (fun P hP => yq_each1 ok.1 yp hf (by omega) g1 g2 g3 g4 g6 (H (y_cu s2, y_de s2, 98, y_fi s2, y_ev s2, y_it s2, y_iv s2, upd (y_ph s2) d 2, y_fr s2, upd (y_mi s2) d (y_cu s2), upd (y_aT s2) d (y_fr s2 d), upd (y_ed s2) d (y_br s2), y_bt s2, y_bv s2, y_oT s2, y_oV s2) t2 (by omega) ⟨⟨?_, r2, rfl, pk_us, ?_, ⟨g1, g2, g3, g4, g5⟩, pk_us.trans r2, pk_us.trans g5, pk_us.trans r3, r6, trivial, r7, Nat.zero_le _, Nat.zero_le _, fun q hq => by cases hq⟩, fun _ => ⟨fun _ => rfl, fun z => by omega⟩⟩ P hP))
  · show y_de s2 = nI d
    rw [r1, nI_pred]
  · intro j hj
    obtain ⟨m1, m2, m3, m4, m5, m6, m7, m8, m9, m10, m11⟩ := r4 j (Nat.lt_succ_of_lt hj)
    exact ⟨m1.trans (e4 hj), m2.trans (e4 hj), m3.trans (e4 hj), m4.trans (e4 hj), (pb_u hj).trans (m5.trans ((e4 hj).trans (pb_u hj))), m6.trans (e4 hj), (pb_u hj).trans m7, (pb_u hj).trans m8, (pb_u hj).trans m9, m10, m11⟩
/-- a step that enters b -/
theorem ys_HsE {bn B : Nat} {eb : PE} {vb : PV} {rsb : List Nat} {bt' bv' : YM → Nat → Int32} (ok : ps_ok p iw T) (yp : yr_p p T yk ya y1 y2) (hf : f < T) (hN : nm = pg_n p) (hav : ∀ o, o ∈ as → aw_v o)
    (hL : yr_LI d f cnt rs v as zA s0 Ob (pg_k p f) pre.length prev acc raw none s) (has : as = pre ++ o :: os) (IB : ys_St p iw T (yr_W post li to mo gi ut uv hgh th ot nm on yk ya yh yo yr y1 y2 pa) N bn eb vb)
    (hOb : (ps_ev p N bn eb vb).1.length ≤ Ob) (hvb : ∀ q, q ∈ (ps_ev p N bn eb vb).1 → aw_v q) (hdb : d + 1 + iw bn (ps_pe iw eb) ≤ 62) (hUb : cnt + as.length + as.length * Ob + tb_U (iw bn (ps_pe iw eb)) ≤ 8192) (hB : tb_S (iw bn (ps_pe iw eb)) ≤ B) (htb : t + 1 + B ≤ 999999)
    (hz : yr_z rsb (ps_ev p N bn eb vb).2 = yr_z rs (ps_ev p N bn eb vb).2) (hrb : ∀ r, r ∈ rsb → r < d + 1)
    (hbb : ∀ s j, j < d → bt' s j = y_bt s j ∧ bv' s j = y_bv s j)
    (hEb : ∀ s', yr_fr d s0 s' → yr_F s' d f rs v cnt → yr_e p T (y_fi s') (y_ev s') (bt' s') (bv' s') eb rsb)
    (Hn : ∀ acc' s', yr_L0 d f cnt rs v as zA s0 Ob pre.length acc' [] none s' → cnt + as.length + acc'.length ≤ 8192 → yr_W post li to mo gi ut uv hgh th ot nm on yk ya yh yo yr y1 y2 pa (t + 1) (yr_en s' d (cnt + pre.length + 1) (cnt + as.length + acc'.length) (nI bn) (yr_h rsb) vb.1 vb.2 (bt' s') (bv' s')) → yr_V2 post li to mo gi ut uv hgh th ot nm on yk ya yh yo yr y1 y2 pa d f (pg_k p f) (cnt + pre.length) as.length (y2 f) (yr_h rs) v t s')
    (Hc : ∀ s' t', t' ≤ t + 1 + B → yr_LI d f cnt rs v as zA s0 Ob (pg_k p f) (pre.length + 1) (some o) (acc ++ raw.map (yr_cv p (pg_k p f) prev)) (ps_ev p N bn eb vb).1 (ps_ev p N bn eb vb).2 s' → yr_V post li to mo gi ut uv hgh th ot nm on yk ya yh yo yr y1 y2 pa d f (pg_k p f) (y2 f) (yr_h rs) v t' s') : yr_V post li to mo gi ut uv hgh th ot nm on yk ya yh yo yr y1 y2 pa d f (pg_k p f) (y2 f) (yr_h rs) v t s := by
  have hlt : pre.length < as.length := by rw [has, List.length_append, List.length_cons]; omega
  refine ys_cv (ok.2 f hf).1 (by omega) hN hav (by omega) hL (fun s' hL0 => ?_)
  have hcap : (acc ++ raw.map (yr_cv p (pg_k p f) prev)).length ≤ as.length * Ob := by
    have h13 := hL0.2.2.2.2.2.2.2.2.2.2.2.2.1
    have hm := Nat.mul_le_mul_right Ob (Nat.le_of_lt hlt)
    rw [List.length_nil] at h13
    omega
  refine Hn _ s' hL0 (by omega) ?_
  have hE1 := hEb s' hL0.2.2.2.2.1 hL0.2.2.2.2.2.1
  have e4 : ∀ {g : Nat → Int32} {z : Int32} {j : Nat}, j < d + 1 → upd g (d + 1) z j = g j := fun {g z j} hj => pb_u hj
  refine IB (d + 1) (cnt + as.length + (acc ++ raw.map (yr_cv p (pg_k p f) prev)).length) rsb _ (t + 1) (by omega) (by omega) (by omega) (yr_e_ag (fun j hj => ⟨e4 hj, e4 hj, rfl, rfl⟩) hrb hE1) hrb rfl rfl pk_us ⟨pk_us, pk_us, pk_us, pk_us, pk_us⟩ (fun s'' t'' ht'' R => ?_)
  rw [hz] at R
  have L := yr_en_L hL0 hOb hlt hvb (hbb s') R
  exact ys_W2 ok.1 yp hf (by omega) (by omega) L.1.1 L.1.2.2.2.1 L.1.2.2.2.2.2.1 (Hc s'' t'' (by omega) ⟨L.1, fun _ => ⟨fun z => by omega, fun _ => ⟨L.2, o, pre, os, rfl, has, rfl⟩⟩⟩)
/-- a step that gives at most one value -/
theorem ys_HsM {l : List PV} (ok : ps_ok p iw T) (yp : yr_p p T yk ya y1 y2) (hf : f < T) (hk : ¬ (pg_k p f = 15 ∨ pg_k p f = 16)) (hd : d < 62) (hN : nm = pg_n p) (hav : ∀ o, o ∈ as → aw_v o)
    (hL : yr_LI d f cnt rs v as zA s0 1 (pg_k p f) pre.length prev acc raw none s) (has : as = pre ++ o :: os) (hl : l.length ≤ 1) (hvb : ∀ q, q ∈ l → aw_v q) (hUb : cnt + as.length + as.length ≤ 8192) (htb : t + 1 ≤ 999999)
    (Hn : ∀ acc' s', yr_L0 d f cnt rs v as zA s0 1 pre.length acc' [] none s' → cnt + as.length + acc'.length < 8192 → yr_W post li to mo gi ut uv hgh th ot nm on yk ya yh yo yr y1 y2 pa (t + 1) (yr_em s' d (cnt + pre.length + 1) (cnt + as.length + acc'.length) l) → yr_V2 post li to mo gi ut uv hgh th ot nm on yk ya yh yo yr y1 y2 pa d f (pg_k p f) (cnt + pre.length) as.length (y2 f) (yr_h rs) v t s')
    (Hc : ∀ s' t', t' ≤ t + 1 + 0 → yr_LI d f cnt rs v as zA s0 1 (pg_k p f) (pre.length + 1) (some o) (acc ++ raw.map (yr_cv p (pg_k p f) prev)) l none s' → yr_V post li to mo gi ut uv hgh th ot nm on yk ya yh yo yr y1 y2 pa d f (pg_k p f) (y2 f) (yr_h rs) v t' s') : yr_V post li to mo gi ut uv hgh th ot nm on yk ya yh yo yr y1 y2 pa d f (pg_k p f) (y2 f) (yr_h rs) v t s := by
  have hlt : pre.length < as.length := by rw [has, List.length_append, List.length_cons]; omega
  refine ys_cv (ok.2 f hf).1 hd hN hav (by omega) hL (fun s' hL0 => ?_)
  have hcap : (acc ++ raw.map (yr_cv p (pg_k p f) prev)).length ≤ pre.length := by
    have h13 := hL0.2.2.2.2.2.2.2.2.2.2.2.2.1
    rw [List.length_nil] at h13
    omega
  refine Hn _ s' hL0 (by omega) ?_
  have L := yr_em_L hL0 hl hlt hvb
  exact ys_W2 ok.1 yp hf (by omega) (by omega) L.1 L.2.2.2.1 L.2.2.2.2.2.1 (Hc _ (t + 1) (Nat.le_refl _) ⟨L, fun z => absurd z hk⟩)
theorem ps_bnd_one {z : Option Nat} : ∀ {as : List PV}, ps_bnd z (fun o => ([o], none)) as = (as, z)
  | [] => rfl
  | o :: as => by rw [ps_bnd, ps_bnd_one, ps_sq, if_pos rfl]; rfl
end
end
section
section
variable {p : PG} {iw : Nat → Nat → Nat} {T : Nat} {post : SY → Prop} {li to mo gi ut uv hgh : Int32} {th ot nm on yk ya yh yo yr y1 y2 pa : Nat → Int32}
theorem ys_HoP {d f cnt Ob t tm x : Nat} {rs : List Nat} {v : PV} {as acc raw : List PV} {prev : Option PV} {za zc : Option Nat} {s0 s : YM} (ok : ps_ok p iw T) (hf : f < T) (hd : d < 62) (hN : nm = pg_n p) (hav : ∀ o, o ∈ as → aw_v o) (hC : cnt + as.length + as.length * Ob ≤ 8192) (hr : ∀ r, r ∈ rs → r < d) (n9 : pg_k p f ≠ 9) (n11 : pg_k p f ≠ 11) (n12 : pg_k p f ≠ 12)
    (hL : yr_LI d f cnt rs v as (yr_z rs za) s0 Ob (pg_k p f) x prev acc raw zc s) (cond : zc ≠ none ∨ x = as.length) (htm : t + 2 ≤ tm) (ht : tm ≤ 999999)
    (hFin : ∀ s' t', t' ≤ tm → yr_R d cnt (acc ++ raw.map (yr_cv p (pg_k p f) prev)) (yr_z rs (if zc = none then za else zc)) s0 s' → yr_W post li to mo gi ut uv hgh th ot nm on yk ya yh yo yr y1 y2 pa t' s') : yr_V post li to mo gi ut uv hgh th ot nm on yk ya yh yo yr y1 y2 pa d f (pg_k p f) (y2 f) (yr_h rs) v t s := by
  refine ys_cv (ok.2 f hf).1 hd hN hav hC hL (fun s'' hL0 => ?_)
  have hcap : (acc ++ raw.map (yr_cv p (pg_k p f) prev)).length ≤ as.length * Ob := by
    have h13 := hL0.2.2.2.2.2.2.2.2.2.2.2.2.1
    have hm := Nat.mul_le_mul_right Ob hL0.2.2.2.2.2.2.2.2.2.2.2.2.2.1
    rw [List.length_nil] at h13
    omega
  refine ys_ovP (ok.2 f hf).1 hd (by omega) (by omega) hr hL0 cond rfl (by omega) (fun s3 R => hFin s3 (t + 2) htm ?_)
  have hb : (if pg_k p f = 9 ∧ (if zc = none then yr_z rs za else yr_z rs zc) = nI d then 98 else (if zc = none then yr_z rs za else yr_z rs zc)) = yr_z rs (if zc = none then za else zc) := by
    rw [if_neg (fun q => n9 q.1)]; split <;> rfl
  rw [hb] at R; exact R
theorem ps_memx {as pre os : List PV} {o : PV} (h : as = pre ++ o :: os) : o ∈ as := by rw [h]; simp
theorem yr_catch {d l0 : Nat} {rs : List Nat} {za : Option Nat} (hd : d < 62) (hr : ∀ r, r ∈ rs → r < d) (hl : rs.length = l0) (hz : ∀ l, za = some l → l ≤ l0 + 1) : (if (9 : Nat) = 9 ∧ yr_z (d :: rs) za = nI d then 98 else yr_z (d :: rs) za) = yr_z rs (if za = some (l0 + 1) then none else za) := by
  cases za with
  | none =>
    have : ¬ yr_z (d :: rs) none = nI d := fun q => pb_ne (a := 98) (b := d) (by decide) (by omega) (by omega) q
    rw [if_neg (fun q => this q.2), if_neg (by simp)]; rfl
  | some l =>
    have h1 := hz l rfl
    by_cases he : l = l0 + 1
    · have : yr_z (d :: rs) (some l) = nI d := by
        rw [yr_z, if_neg (by omega), yr_lf, if_pos (by omega)]
      rw [if_pos ⟨rfl, this⟩, if_pos (by rw [he])]; rfl
    · have hc : yr_z (d :: rs) (some l) = yr_z rs (some l) := yr_z_c (by omega)
      have : ¬ yr_z rs (some l) = nI d := by
        intro q
        have q' : (if l = 0 then (99 : Int32) else nI (yr_lf rs l)) = nI d := q
        by_cases h0 : l = 0
        · rw [if_pos h0] at q'
          exact pb_ne (a := 99) (b := d) (by decide) (by omega) (by omega) q'
        · rw [if_neg h0] at q'
          have hm := hr _ (yr_lf_mem (rs := rs) (l := l) (by omega) (by omega))
          exact pb_ne (by omega) (by omega) (by omega) q'
      rw [hc, if_neg (fun q => this q.2), if_neg (by simpa using he)]
theorem yr_z_isl {d : Nat} {rs : List Nat} {e : PE} {x : Nat × Int32 × Int32 × Int32 × Nat} (hx : x.1 ≠ 9) (hl : rs.length = e.length) : ∀ {z : Option Nat}, (∀ l, z = some l → ps_isl (x :: e) l) → yr_z (d :: rs) z = yr_z rs z
  | none, _ => rfl
  | some l, h => by
    rcases h l rfl with ⟨q, _⟩ | q
    · exact absurd q hx
    · have := ps_isl_le q; exact yr_z_c (by omega)
theorem ys_main (ok : ps_ok p iw T) (yp : yr_p p T yk ya y1 y2) (ar : ps_ar p T) (hP : th = pg_p p) (hN : nm = pg_n p) : ∀ (N f : Nat) (e : PE) (v : PV), f < T → aw_e T 0 e → aw_v v → iw f (ps_pe iw e) ≤ N → iw f (ps_pe iw e) ≤ 24 → ys_St p iw T (yr_W post li to mo gi ut uv hgh th ot nm on yk ya yh yo yr y1 y2 pa) N f e v := by
  intro N
  induction N with
  | zero => intro f e v hf _ _ hw; have := ps_iw_pos (q := ps_pe iw e) ok hf; omega
  | succ N ih =>
    intro f e v hf he hv hwN hw d cnt rs s t hd hU ht hE hr h1 h2 h3 hF H
    have hp := ps_iw_pos (q := ps_pe iw e) ok hf
    have h0 := tb_c0 _ (Nat.lt_succ_of_le hw) hp
    have heo := aw_e_ok ok.1 he
    have h32 := ok.1
    have hK := (ok.2 f hf).1
    have hlen := yr_e_len hE
    have leaf : pg_k p f < 8 → (pg_k p f = 6 → ps_fd 14 (-1) e = []) → yr_W post li to mo gi ut uv hgh th ot nm on yk ya yh yo yr y1 y2 pa t s := by
      intro hk8 h6
      obtain ⟨cu, de, br, fi, ev, it, iv, ph, fr, mi, aT, ed, bt, bv, oT, oV⟩ := s
      have e1 : de = nI d := h1
      have e2 : cu = nI cnt := h2
      subst e1 e2
      obtain ⟨f1, f2, f3, f4, f5⟩ := hF
      refine yw_beg (by omega) (by omega) h1 h3 (fun P hPP => yq_leaf (N := N) ok.1 yp ar hP hf (by omega) (by omega) (fun k2 => ?_) hk8 h6 f1 f2 f3 f4 hE hr hv (hPP (nI (cnt + (ps_ev p (N + 1) f e v).1.length), nI d, yr_z rs (ps_ev p (N + 1) f e v).2, fi, ev, it, iv, upd ph d 3, fr, mi, aT, ed, bt, bv, yr_pT oT cnt (ps_ev p (N + 1) f e v).1, yr_pV oV cnt (ps_ev p (N + 1) f e v).1) ?_))
      · rw [ps_iw2 ok hf k2] at hU; exact hU
      · refine yw_pop (d := d) (by omega) (by omega) rfl pk_us (H _ (t + 1 + 1) (by omega) ⟨rfl, rfl, rfl, fun j hj => ⟨rfl, rfl, rfl, rfl, pb_u hj, rfl, rfl, rfl, rfl, rfl, rfl⟩, f5, yr_p_sg, fun j hj => ⟨yr_pT_lo hj, yr_pV_lo hj⟩⟩)
    rcases ps_kinds hK with c | c | c | c | c | c | c | c | c | c | c | c | c | c | c | c | c
    · exact leaf (by omega) (fun z => by omega)
    · exact leaf (by omega) (fun z => by omega)
    · exact leaf (by omega) (fun z => by omega)
    · exact leaf (by omega) (fun z => by omega)
    · exact leaf (by omega) (fun z => by omega)
    · exact leaf (by omega) (fun z => by omega)
    · cases hx : ps_fd 14 (-1) e with
      | nil => exact leaf (by omega) (fun _ => hx)
      | cons x e' =>
        have g1 := ps_fd_cons (iw := iw) hx heo
        have g2 := ps_iw6 (q := ps_pe iw e) ok hf c
        have g3 := ps_iw_pos (q := ps_pe iw e') ok g1.2.2
        rw [g1.1] at g2
        rw [g1.1, g2] at hd hU ht hw hwN
        have tb := tb_c1 (iw x.2.1.toNatClampNeg (ps_pe iw e')) (by omega) g3
        rw [show 1 + iw x.2.1.toNatClampNeg (ps_pe iw e') = iw x.2.1.toNatClampNeg (ps_pe iw e') + 1 by omega] at hU ht
        have IB := ih x.2.1.toNatClampNeg e' v g1.2.2 (aw_e_tl he hx) hv (by omega) (by omega)
        obtain ⟨b, hb, hx2⟩ := (he x (ps_fd_hd hx).2).2.1 (ps_fd_hd hx).1
        obtain ⟨cu, de, br, fi, ev, it, iv, ph, fr, mi, aT, ed, bt, bv, oT, oV⟩ := s
        have e1 : de = nI d := h1
        have e2 : cu = nI cnt := h2
        subst e1 e2
        obtain ⟨f1, f2, f3, f4, f5⟩ := hF
        refine yw_beg (by omega) (by omega) h1 h3 (fun P hPP => yq_param ok.1 yp ar hf (by omega) c hx f1 f2 f3 f4 hE hr (fun l r rs'' hrs hE' => hPP (nI cnt, nI (d + 1), 98, upd fi (d + 1) x.2.1, upd ev (d + 1) (yr_h rs''), upd it (d + 1) v.1, upd iv (d + 1) v.2, upd (upd ph d 3) (d + 1) 0, upd fr (d + 1) (nI cnt), mi, aT, ed, bt, bv, oT, oV) ?_))
        have e4 : ∀ {g : Nat → Int32} {z : Int32} {j : Nat}, j < d → upd g (d + 1) z j = g j := fun {g z j} hj => pb_u (Nat.lt_succ_of_lt hj)
        have e5 : ∀ {g : Nat → Int32} {z : Int32}, upd g (d + 1) z d = g d := fun {g z} => pb_u (Nat.lt_succ_self d)
        have hrs' : ∀ r', r' ∈ rs'' → r' < d := fun r' h => hr r' (by rw [hrs]; exact List.mem_append_right _ (List.mem_cons_of_mem _ h))
        refine IB (d + 1) cnt rs'' _ (t + 1) (by omega) (by omega) (by omega) (yr_e_ag (fun j hj => ⟨e4 hj, e4 hj, rfl, rfl⟩) hrs' hE') (fun r' h => Nat.lt_succ_of_lt (hrs' r' h)) rfl rfl pk_us ⟨pk_us.trans (by rw [hx2, nI_clamp (by omega)]), pk_us, pk_us, pk_us, pk_us⟩ (fun s2 t2 ht2 R => ?_)
        obtain ⟨r1, r2, r3, r4, r5, r6, r7⟩ := R
        obtain ⟨k1, k2, k3, k4, k5, k6, k7, k8, k9, k10, k11⟩ := r4 d (Nat.lt_succ_self d)
        refine yw_pop (d := d) (by omega) (by omega) (by rw [r1, nI_pred]) (k5.trans (e5.trans pk_us)) (H _ (t2 + 1) ?_ ?_)
        · rw [g1.1, g2, show 1 + iw x.2.1.toNatClampNeg (ps_pe iw e') = iw x.2.1.toNatClampNeg (ps_pe iw e') + 1 by omega]; omega
        · have hz : yr_z rs'' (ps_ev p N x.2.1.toNatClampNeg e' v).2 = yr_z rs (ps_ev p N x.2.1.toNatClampNeg e' v).2 := by
            cases hzz : (ps_ev p N x.2.1.toNatClampNeg e' v).2 with
            | none => rfl
            | some m =>
              have hm := ps_isl_le (ps_ev_isl _ _ _ _ _ hzz)
              have hl2 := yr_e_len hE'
              have ha := yr_z_app (m := m) (rs := rs'') (by omega) (l := l ++ [r])
              rw [List.append_assoc] at ha
              rw [hrs]; exact ha.symm
          rw [ps_ev6 c, hx, ps_par]
          refine ⟨rfl, r2, r3.trans hz, fun j hj => ?_, k6.trans (e5.trans f5), r6, r7⟩
          obtain ⟨m1, m2, m3, m4, m5, m6, m7, m8, m9, m10, m11⟩ := r4 j (Nat.lt_succ_of_lt hj)
          exact ⟨m1.trans (e4 hj), m2.trans (e4 hj), m3.trans (e4 hj), m4.trans (e4 hj), m5.trans ((e4 hj).trans (pb_u hj)), m6.trans (e4 hj), m7, m8, m9, m10, m11⟩
    · exact leaf (by omega) (fun z => by omega)
    · -- AT
      have g2 := ps_iw8 (q := ps_pe iw e) ok hf (Or.inl c)
      have c1T := ps_c1 ok hf (show 8 ≤ pg_k p f by omega)
      have g3 := ps_iw_pos (q := ps_pe iw e) ok c1T
      have tb := tb_c1 (iw (pg_1 p f) (ps_pe iw e)) (by omega) g3
      have hl := ps_ev_len ok N (pg_1 p f) e v c1T heo (by omega)
      have hav := ps_ev_v ok N (pg_1 p f) 0 e v c1T he hv
      rw [g2, Nat.add_comm 1] at hd hU ht H
      refine ys_pre (Ob := 1) (eA := e) (rsA := rs) ok yp ar hf (by omega) (Or.inr ⟨by omega, rfl, rfl⟩) (ih _ e v c1T he hv (by omega) (by omega)) (by omega) (by omega) (by omega) hE hr h1 h2 h3 hF (fun s3 t3 ht3 hL => ?_)
      refine ys_loop (as := (ps_ev p N (pg_1 p f) e v).1) (za := (ps_ev p N (pg_1 p f) e v).2) (g := fun o => (ps_key (ps_num p o) v, none)) (cv := yr_cv p (pg_k p f)) (Fin := fun outs z => ∀ s' t', t' ≤ t + tb_S (iw (pg_1 p f) (ps_pe iw e) + 1) → yr_R d cnt outs (yr_z rs z) s s' → yr_W post li to mo gi ut uv hgh th ot nm on yk ya yh yo yr y1 y2 pa t' s') (B := 0) (tE := t + 1 + tb_S (iw (pg_1 p f) (ps_pe iw e)) + tb_O (iw (pg_1 p f) (ps_pe iw e))) (fun pre o os prev acc raw s' t' has hL' ht' Hc => ?_) (fun x prev acc raw zc s' t' hL' _ cond ht' hFin => ?_) (ps_ev p N (pg_1 p f) e v).1 [] none [] [] none s3 t3 rfl hL (Or.inl rfl) (by omega) (fun s' t' ht' R => H s' t' ht' ?_)
      · exact ys_HsM (l := ps_key (ps_num p o) v) ok yp hf (by omega) (by omega) hN hav hL' has (ps_key_1 _ _) (aw_v_key hv) (by omega) (by omega) (fun acc' s'' hL0 hcc hW => by rw [c]; exact ys_n8 hcc (by omega) hN (by omega) (hav o (ps_memx has)) has hL0 hW) Hc
      · exact ys_HoP ok hf (by omega) hN hav (by omega) hr (by omega) (by omega) (by omega) hL' cond (by omega) (by omega) hFin
      · have hg : (fun o => ((ps_key (ps_num p o) v).map (yr_cv p (pg_k p f) (some o)), (none : Option Nat))) = (fun o => (ps_key (ps_num p o) v, none)) := by
          funext o; rw [yr_cv_id (by omega)]
        rw [ps_ev8 c]
        simp only [if_true, hg] at R
        exact R
    · -- LABEL
      have g2 := ps_iw8 (q := ps_pe iw e) ok hf (Or.inr c)
      have c1T := ps_c1 ok hf (show 8 ≤ pg_k p f by omega)
      have g3 := ps_iw_pos (q := ps_pe iw e) ok c1T
      have tb := tb_c1 (iw (pg_1 p f) (ps_pe iw e)) (by omega) g3
      have hpe : ps_pe iw ((9, nI f, 0, 0, 0) :: e) = ps_pe iw e := by rw [ps_pe, if_neg (by intro z; cases z)]
      have heA : aw_e T 0 ((9, nI f, 0, 0, 0) :: e) := aw_e_c he ⟨(show (9 : Nat) ≤ 17 by decide), (fun z => by cases z), (fun z => by cases z), fun _ => Nat.zero_le _⟩
      have hl := ps_ev_len ok N (pg_1 p f) ((9, nI f, 0, 0, 0) :: e) v c1T (aw_e_ok ok.1 heA) (by rw [hpe]; omega)
      have hav := ps_ev_v ok N (pg_1 p f) 0 ((9, nI f, 0, 0, 0) :: e) v c1T heA hv
      have hisl := ps_ev_isl (p := p) N (pg_1 p f) ((9, nI f, 0, 0, 0) :: e) v
      rw [hpe] at hl
      rw [g2, Nat.add_comm 1] at hd hU ht H
      refine ys_pre (Ob := 1) (eA := (9, nI f, 0, 0, 0) :: e) (rsA := d :: rs) ok yp ar hf (by omega) (Or.inl ⟨Or.inl c, rfl, _, rfl, c.symm, (fun z => by cases z)⟩) (ih _ _ v c1T heA hv (by rw [hpe]; omega) (by rw [hpe]; omega)) (by rw [hpe]; omega) (by rw [hpe]; omega) (by rw [hpe]; omega) hE hr h1 h2 h3 hF (fun s3 t3 ht3 hL => ?_)
      rw [hpe] at ht3
      refine ys_loop (as := (ps_ev p N (pg_1 p f) ((9, nI f, 0, 0, 0) :: e) v).1) (za := (ps_ev p N (pg_1 p f) ((9, nI f, 0, 0, 0) :: e) v).2) (g := fun o => ([o], none)) (cv := yr_cv p (pg_k p f)) (Fin := fun outs z => ∀ s' t', t' ≤ t + tb_S (iw (pg_1 p f) (ps_pe iw e) + 1) → yr_R d cnt outs (yr_z rs (if z = some (e.length + 1) then none else z)) s s' → yr_W post li to mo gi ut uv hgh th ot nm on yk ya yh yo yr y1 y2 pa t' s') (B := 0) (tE := t + 1 + tb_S (iw (pg_1 p f) (ps_pe iw e)) + tb_O (iw (pg_1 p f) (ps_pe iw e))) (fun pre o os prev acc raw s' t' has hL' ht' Hc => ?_) (fun x prev acc raw zc s' t' hL' hz0 cond ht' hFin => ?_) (ps_ev p N (pg_1 p f) ((9, nI f, 0, 0, 0) :: e) v).1 [] none [] [] none s3 t3 rfl hL (Or.inl rfl) (by omega) (fun s' t' ht' R => H s' t' ht' ?_)
      · exact ys_HsM (l := [o]) ok yp hf (by omega) (by omega) hN hav hL' has (Nat.le_refl 1) (fun q hq => by rw [List.mem_singleton.mp hq]; exact hav o (ps_memx has)) (by omega) (by omega) (fun acc' s'' hL0 hcc hW => by rw [c]; exact ys_n9 (Or.inl rfl) hcc (by omega) hN (by omega) (hav o (ps_memx has)) has hL0 hW) Hc
      · have hzn : zc = none := by
          rcases hz0 with q | ⟨_, q⟩
          · exact q
          · exact q.symm
        subst hzn
        refine ys_cv hK (by omega) hN hav (by omega) hL' (fun s'' hL0 => ?_)
        have hcap : (acc ++ raw.map (yr_cv p (pg_k p f) prev)).length ≤ (ps_ev p N (pg_1 p f) ((9, nI f, 0, 0, 0) :: e) v).1.length * 1 := by
          have h13 := hL0.2.2.2.2.2.2.2.2.2.2.2.2.1
          have hm := Nat.mul_le_mul_right 1 hL0.2.2.2.2.2.2.2.2.2.2.2.2.2.1
          rw [List.length_nil] at h13
          omega
        refine ys_ovP hK (by omega) (by omega) (by omega) hr hL0 cond rfl (by omega) (fun s3 R => hFin s3 (t' + 2) (by omega) ?_)
        rw [if_pos rfl, c, yr_catch (by omega) hr hlen (fun l hz => by have := ps_isl_le (hisl l hz); rw [List.length_cons] at this; exact this)] at R
        rw [if_pos rfl, c]; exact R
      · have hg : (fun o => (([o] : List PV).map (yr_cv p (pg_k p f) (some o)), (none : Option Nat))) = (fun o => ([o], none)) := by
          funext o; rw [yr_cv_id (by omega)]
        rw [ps_ev9 c, ps_catch]
        simp only [if_true, hg, ps_bnd_one] at R
        exact R
    · -- PIPE
      have g2 := ps_iw10 (q := ps_pe iw e) ok hf (by omega) (by omega) (by omega)
      have c1T := ps_c1 ok hf (show 8 ≤ pg_k p f by omega)
      have c2T := ps_c2 ok hf (show 10 ≤ pg_k p f by omega)
      have g3 := ps_iw_pos (q := ps_pe iw e) ok c1T
      have g4 := ps_iw_pos (q := ps_pe iw e) ok c2T
      have tb := tb_c2 (iw (pg_1 p f) (ps_pe iw e)) (by omega) (iw (pg_2 p f) (ps_pe iw e)) (by omega) g3 g4 (by omega)
      have ta := tb_c0 (iw (pg_1 p f) (ps_pe iw e)) (by omega) g3
      have tbb := tb_c0 (iw (pg_2 p f) (ps_pe iw e)) (by omega) g4
      have hl := ps_ev_len ok N (pg_1 p f) e v c1T heo (by omega)
      have hav := ps_ev_v ok N (pg_1 p f) 0 e v c1T he hv
      have hy2 : y2 f = nI (pg_2 p f) := (yp f hf).2.2.2.1 (by omega)
      rw [g2, show 1 + iw (pg_1 p f) (ps_pe iw e) + iw (pg_2 p f) (ps_pe iw e) = iw (pg_1 p f) (ps_pe iw e) + iw (pg_2 p f) (ps_pe iw e) + 1 by omega] at hd hU ht H
      have hUa := (tb_m g3 (show iw (pg_1 p f) (ps_pe iw e) ≤ iw (pg_1 p f) (ps_pe iw e) + iw (pg_2 p f) (ps_pe iw e) + 1 by omega) (by omega)).2.1
      have m1 := Nat.mul_le_mul_right (1 + tb_S (iw (pg_2 p f) (ps_pe iw e))) hl
      have m2 := Nat.mul_le_mul_right (tb_O (iw (pg_2 p f) (ps_pe iw e))) hl
      refine ys_pre (Ob := tb_O (iw (pg_2 p f) (ps_pe iw e))) (eA := e) (rsA := rs) ok yp ar hf (by omega) (Or.inr ⟨by omega, rfl, rfl⟩) (ih _ e v c1T he hv (by omega) (by omega)) (by omega) (by omega) (by omega) hE hr h1 h2 h3 hF (fun s3 t3 ht3 hL => ?_)
      refine ys_loop (as := (ps_ev p N (pg_1 p f) e v).1) (za := (ps_ev p N (pg_1 p f) e v).2) (g := fun o => ps_ev p N (pg_2 p f) e o) (cv := yr_cv p (pg_k p f)) (Fin := fun outs z => ∀ s' t', t' ≤ t + tb_S (iw (pg_1 p f) (ps_pe iw e) + iw (pg_2 p f) (ps_pe iw e) + 1) → yr_R d cnt outs (yr_z rs z) s s' → yr_W post li to mo gi ut uv hgh th ot nm on yk ya yh yo yr y1 y2 pa t' s') (B := tb_S (iw (pg_2 p f) (ps_pe iw e))) (tE := t + 1 + tb_S (iw (pg_1 p f) (ps_pe iw e)) + tb_O (iw (pg_1 p f) (ps_pe iw e)) * (1 + tb_S (iw (pg_2 p f) (ps_pe iw e)))) (fun pre o os prev acc raw s' t' has hL' ht' Hc => ?_) (fun x prev acc raw zc s' t' hL' _ cond ht' hFin => ?_) (ps_ev p N (pg_1 p f) e v).1 [] none [] [] none s3 t3 rfl hL (Or.inl rfl) (by omega) (fun s' t' ht' R => H s' t' ht' ?_)
      · have ho := hav o (ps_memx has)
        have tt : t' + 1 + tb_S (iw (pg_2 p f) (ps_pe iw e)) ≤ 999999 := by rw [Nat.add_mul, Nat.one_mul] at ht'; omega
        exact ys_HsE (bn := pg_2 p f) (eb := e) (vb := o) (rsb := rs) (bt' := y_bt) (bv' := y_bv) ok yp hf hN hav hL' has (ih _ e o c2T he ho (by omega) (by omega)) (ps_ev_len ok N _ e o c2T heo (by omega)) (ps_ev_v ok N _ 0 e o c2T he ho) (by omega) (by omega) (Nat.le_refl _) tt rfl (fun r h => Nat.lt_succ_of_lt (hr r h)) (fun _ _ _ => ⟨rfl, rfl⟩) (fun s'' hfr _ => yr_e_fr hfr hr hE) (fun acc' s'' hL0 hcc hW => by rw [c, hy2]; exact ys_n10 (by omega) hN hcc ho has hL0 hW) Hc
      · exact ys_HoP ok hf (by omega) hN hav (by omega) hr (by omega) (by omega) (by omega) hL' cond (by omega) (by omega) hFin
      · have hg : (fun o => ((ps_ev p N (pg_2 p f) e o).1.map (yr_cv p (pg_k p f) (some o)), (ps_ev p N (pg_2 p f) e o).2)) = (fun o => ps_ev p N (pg_2 p f) e o) := by
          funext o; rw [yr_cv_id (by omega)]
        rw [ps_ev10 c]
        simp only [if_true, hg] at R
        exact R
    · -- COMMA
      have g2 := ps_iw10 (q := ps_pe iw e) ok hf (by omega) (by omega) (by omega)
      have c1T := ps_c1 ok hf (show 8 ≤ pg_k p f by omega)
      have c2T := ps_c2 ok hf (show 10 ≤ pg_k p f by omega)
      have g3 := ps_iw_pos (q := ps_pe iw e) ok c1T
      have g4 := ps_iw_pos (q := ps_pe iw e) ok c2T
      have tb := tb_c2 (iw (pg_1 p f) (ps_pe iw e)) (by omega) (iw (pg_2 p f) (ps_pe iw e)) (by omega) g3 g4 (by omega)
      have ta := tb_c0 (iw (pg_1 p f) (ps_pe iw e)) (by omega) g3
      have tbb := tb_c0 (iw (pg_2 p f) (ps_pe iw e)) (by omega) g4
      have hl := ps_ev_len ok N (pg_1 p f) e v c1T heo (by omega)
      have hav := ps_ev_v ok N (pg_1 p f) 0 e v c1T he hv
      have hy2 : y2 f = nI (pg_2 p f) := (yp f hf).2.2.2.1 (by omega)
      rw [g2, show 1 + iw (pg_1 p f) (ps_pe iw e) + iw (pg_2 p f) (ps_pe iw e) = iw (pg_1 p f) (ps_pe iw e) + iw (pg_2 p f) (ps_pe iw e) + 1 by omega] at hd hU ht H
      have hUa := (tb_m g3 (show iw (pg_1 p f) (ps_pe iw e) ≤ iw (pg_1 p f) (ps_pe iw e) + iw (pg_2 p f) (ps_pe iw e) + 1 by omega) (by omega)).2.1
      have m3 := Nat.le_mul_of_pos_right (tb_O (iw (pg_1 p f) (ps_pe iw e))) (show 0 < tb_O (iw (pg_2 p f) (ps_pe iw e)) by omega)
      have m4 := Nat.le_mul_of_pos_right (tb_O (iw (pg_1 p f) (ps_pe iw e))) (show 0 < 1 + tb_S (iw (pg_2 p f) (ps_pe iw e)) by omega)
      refine ys_pre (Ob := 1) (eA := e) (rsA := rs) ok yp ar hf (by omega) (Or.inr ⟨by omega, rfl, rfl⟩) (ih _ e v c1T he hv (by omega) (by omega)) (by omega) (by omega) (by omega) hE hr h1 h2 h3 hF (fun s3 t3 ht3 hL => ?_)
      refine ys_loop (as := (ps_ev p N (pg_1 p f) e v).1) (za := (ps_ev p N (pg_1 p f) e v).2) (g := fun o => ([o], none)) (cv := yr_cv p (pg_k p f)) (Fin := fun outs z => ∀ s' t', t' ≤ t + tb_S (iw (pg_1 p f) (ps_pe iw e) + iw (pg_2 p f) (ps_pe iw e) + 1) → yr_R d cnt (ps_sq (outs, z) (ps_ev p N (pg_2 p f) e v)).1 (yr_z rs (ps_sq (outs, z) (ps_ev p N (pg_2 p f) e v)).2) s s' → yr_W post li to mo gi ut uv hgh th ot nm on yk ya yh yo yr y1 y2 pa t' s') (B := 0) (tE := t + 1 + tb_S (iw (pg_1 p f) (ps_pe iw e)) + tb_O (iw (pg_1 p f) (ps_pe iw e))) (fun pre o os prev acc raw s' t' has hL' ht' Hc => ?_) (fun x prev acc raw zc s' t' hL' hz0 cond ht' hFin => ?_) (ps_ev p N (pg_1 p f) e v).1 [] none [] [] none s3 t3 rfl hL (Or.inl rfl) (by omega) (fun s' t' ht' R => H s' t' ht' ?_)
      · exact ys_HsM (l := [o]) ok yp hf (by omega) (by omega) hN hav hL' has (Nat.le_refl 1) (fun q hq => by rw [List.mem_singleton.mp hq]; exact hav o (ps_memx has)) (by omega) (by omega) (fun acc' s'' hL0 hcc hW => by rw [c]; exact ys_n9 (Or.inr (Or.inl rfl)) hcc (by omega) hN (by omega) (hav o (ps_memx has)) has hL0 hW) Hc
      · have hzn : zc = none := by
          rcases hz0 with q | ⟨_, q⟩
          · exact q
          · exact q.symm
        subst hzn
        rw [if_pos rfl] at hFin
        refine ys_cv hK (by omega) hN hav (by omega) hL' (fun s'' hL0 => ?_)
        have hcap : (acc ++ raw.map (yr_cv p (pg_k p f) prev)).length ≤ (ps_ev p N (pg_1 p f) e v).1.length * 1 := by
          have h13 := hL0.2.2.2.2.2.2.2.2.2.2.2.2.1
          have hm := Nat.mul_le_mul_right 1 hL0.2.2.2.2.2.2.2.2.2.2.2.2.2.1
          rw [List.length_nil] at h13
          omega
        cases hza : (ps_ev p N (pg_1 p f) e v).2 with
        | none =>
          rw [hza, ps_sq, if_pos rfl] at hFin
          rw [hza] at hL0
          exact ys_ovE (Or.inl c) hy2 rfl (ih _ e v c2T he hv (by omega) (by omega)) (by omega) (by omega) (by omega) (by omega) hr hE hL0 cond (by rw [if_pos rfl]; rfl) (fun s3 t3 ht3 R => hFin s3 t3 (by omega) R)
        | some l =>
          rw [hza, ps_sq, if_neg (by simp)] at hFin
          rw [hza] at hL0
          have hr' : ∀ r, r ∈ rs → r < 64 := fun r h => Nat.lt_trans (hr r h) (by omega)
          have h98 : ¬ yr_z rs (some l) = 98 := fun q => by have := (yr_z_98 hr').mp q; cases this
          refine ys_ovP (b1 := yr_z rs (some l)) hK (by omega) (by omega) (by omega) hr hL0 cond ?_ (fun q => h98 q.1) (fun s3 R => hFin s3 (t' + 2) (by omega) R)
          rw [if_pos rfl, if_neg (by omega)]
      · have hg : (fun o => (([o] : List PV).map (yr_cv p (pg_k p f) (some o)), (none : Option Nat))) = (fun o => ([o], none)) := by
          funext o; rw [yr_cv_id (by omega)]
        rw [ps_ev11 c]
        simp only [if_true, hg, ps_bnd_one] at R
        exact R
    · -- ALT
      have g2 := ps_iw10 (q := ps_pe iw e) ok hf (by omega) (by omega) (by omega)
      have c1T := ps_c1 ok hf (show 8 ≤ pg_k p f by omega)
      have c2T := ps_c2 ok hf (show 10 ≤ pg_k p f by omega)
      have g3 := ps_iw_pos (q := ps_pe iw e) ok c1T
      have g4 := ps_iw_pos (q := ps_pe iw e) ok c2T
      have tb := tb_c2 (iw (pg_1 p f) (ps_pe iw e)) (by omega) (iw (pg_2 p f) (ps_pe iw e)) (by omega) g3 g4 (by omega)
      have ta := tb_c0 (iw (pg_1 p f) (ps_pe iw e)) (by omega) g3
      have tbb := tb_c0 (iw (pg_2 p f) (ps_pe iw e)) (by omega) g4
      have hl := ps_ev_len ok N (pg_1 p f) e v c1T heo (by omega)
      have hav := ps_ev_v ok N (pg_1 p f) 0 e v c1T he hv
      have hy2 : y2 f = nI (pg_2 p f) := (yp f hf).2.2.2.1 (by omega)
      rw [g2, show 1 + iw (pg_1 p f) (ps_pe iw e) + iw (pg_2 p f) (ps_pe iw e) = iw (pg_1 p f) (ps_pe iw e) + iw (pg_2 p f) (ps_pe iw e) + 1 by omega] at hd hU ht H
      have hUa := (tb_m g3 (show iw (pg_1 p f) (ps_pe iw e) ≤ iw (pg_1 p f) (ps_pe iw e) + iw (pg_2 p f) (ps_pe iw e) + 1 by omega) (by omega)).2.1
      have m3 := Nat.le_mul_of_pos_right (tb_O (iw (pg_1 p f) (ps_pe iw e))) (show 0 < tb_O (iw (pg_2 p f) (ps_pe iw e)) by omega)
      have m4 := Nat.le_mul_of_pos_right (tb_O (iw (pg_1 p f) (ps_pe iw e))) (show 0 < 1 + tb_S (iw (pg_2 p f) (ps_pe iw e)) by omega)
      refine ys_pre (Ob := 1) (eA := e) (rsA := rs) ok yp ar hf (by omega) (Or.inr ⟨by omega, rfl, rfl⟩) (ih _ e v c1T he hv (by omega) (by omega)) (by omega) (by omega) (by omega) hE hr h1 h2 h3 hF (fun s3 t3 ht3 hL => ?_)
      refine ys_loop (as := (ps_ev p N (pg_1 p f) e v).1) (za := (ps_ev p N (pg_1 p f) e v).2) (g := ps_nz p) (cv := yr_cv p (pg_k p f)) (Fin := fun outs z => ∀ s' t', t' ≤ t + tb_S (iw (pg_1 p f) (ps_pe iw e) + iw (pg_2 p f) (ps_pe iw e) + 1) → yr_R d cnt (ps_alt (outs, z) (ps_ev p N (pg_2 p f) e v)).1 (yr_z rs (ps_alt (outs, z) (ps_ev p N (pg_2 p f) e v)).2) s s' → yr_W post li to mo gi ut uv hgh th ot nm on yk ya yh yo yr y1 y2 pa t' s') (B := 0) (tE := t + 1 + tb_S (iw (pg_1 p f) (ps_pe iw e)) + tb_O (iw (pg_1 p f) (ps_pe iw e))) (fun pre o os prev acc raw s' t' has hL' ht' Hc => ?_) (fun x prev acc raw zc s' t' hL' hz0 cond ht' hFin => ?_) (ps_ev p N (pg_1 p f) e v).1 [] none [] [] none s3 t3 rfl hL (Or.inl rfl) (by omega) (fun s' t' ht' R => H s' t' ht' ?_)
      · exact ys_HsM (l := (ps_nz p o).1) ok yp hf (by omega) (by omega) hN hav hL' has (by unfold ps_nz; dsimp only; split <;> simp) (fun q hq => by
          unfold ps_nz at hq
          dsimp only at hq
          split at hq
          · cases hq
          · rw [List.mem_singleton.mp hq]; exact hav o (ps_memx has)) (by omega) (by omega) (fun acc' s'' hL0 hcc hW => by rw [c]; exact ys_n12 hcc (by omega) hN (by omega) (hav o (ps_memx has)) has hL0 hW) Hc
      · have hzn : zc = none := by
          rcases hz0 with q | ⟨_, q⟩
          · exact q
          · exact q.symm
        subst hzn
        rw [if_pos rfl] at hFin
        refine ys_cv hK (by omega) hN hav (by omega) hL' (fun s'' hL0 => ?_)
        generalize acc ++ raw.map (yr_cv p (pg_k p f) prev) = acc2 at hFin hL0 ⊢
        have hcap : acc2.length ≤ (ps_ev p N (pg_1 p f) e v).1.length * 1 := by
          have h13 := hL0.2.2.2.2.2.2.2.2.2.2.2.2.1
          have hm := Nat.mul_le_mul_right 1 hL0.2.2.2.2.2.2.2.2.2.2.2.2.2.1
          rw [List.length_nil] at h13
          omega
        by_cases hcase : acc2 = [] ∧ (ps_ev p N (pg_1 p f) e v).2 = none
        · rw [ps_alt, if_pos hcase] at hFin
          obtain ⟨ha0, hza⟩ := hcase
          subst ha0
          rw [hza] at hL0
          exact ys_ovE (Or.inr ⟨c, rfl⟩) hy2 rfl (ih _ e v c2T he hv (by omega) (by omega)) (by omega) (by simp only [List.length_nil] at hcap ⊢; omega) (by omega) (by omega) hr hE hL0 cond (by rw [if_pos rfl]; rfl) (fun s3 t3 ht3 R => hFin s3 t3 (by omega) R)
        · rw [ps_alt, if_neg hcase] at hFin
          have hr' : ∀ r, r ∈ rs → r < 64 := fun r h => Nat.lt_trans (hr r h) (by omega)
          refine ys_ovP (b1 := yr_z rs (ps_ev p N (pg_1 p f) e v).2) hK (by omega) (by omega) (by omega) hr hL0 cond ?_ (fun q => hcase ⟨?_, (yr_z_98 hr').mp q.1⟩) (fun s3 R => hFin s3 (t' + 2) (by omega) R)
          · rw [if_pos rfl, if_neg (by omega)]
          · rcases q.2 with q | q
            · omega
            · exact List.eq_nil_of_length_eq_zero q.2
      · have hg : (fun o => ((ps_nz p o).1.map (yr_cv p (pg_k p f) (some o)), (ps_nz p o).2)) = ps_nz p := by
          funext o; rw [yr_cv_id (by omega)]
        rw [ps_ev12 c]
        simp only [if_true, hg] at R
        exact R
    · -- BIND
      have g2 := ps_iw10 (q := ps_pe iw e) ok hf (by omega) (by omega) (by omega)
      have c1T := ps_c1 ok hf (show 8 ≤ pg_k p f by omega)
      have c2T := ps_c2 ok hf (show 10 ≤ pg_k p f by omega)
      have g3 := ps_iw_pos (q := ps_pe iw e) ok c1T
      have g4 := ps_iw_pos (q := ps_pe iw e) ok c2T
      have tb := tb_c2 (iw (pg_1 p f) (ps_pe iw e)) (by omega) (iw (pg_2 p f) (ps_pe iw e)) (by omega) g3 g4 (by omega)
      have ta := tb_c0 (iw (pg_1 p f) (ps_pe iw e)) (by omega) g3
      have tbb := tb_c0 (iw (pg_2 p f) (ps_pe iw e)) (by omega) g4
      have hl := ps_ev_len ok N (pg_1 p f) e v c1T heo (by omega)
      have hav := ps_ev_v ok N (pg_1 p f) 0 e v c1T he hv
      have hy2 : y2 f = nI (pg_2 p f) := (yp f hf).2.2.2.1 (by omega)
      rw [g2, show 1 + iw (pg_1 p f) (ps_pe iw e) + iw (pg_2 p f) (ps_pe iw e) = iw (pg_1 p f) (ps_pe iw e) + iw (pg_2 p f) (ps_pe iw e) + 1 by omega] at hd hU ht H
      have hUa := (tb_m g3 (show iw (pg_1 p f) (ps_pe iw e) ≤ iw (pg_1 p f) (ps_pe iw e) + iw (pg_2 p f) (ps_pe iw e) + 1 by omega) (by omega)).2.1
      have m1 := Nat.mul_le_mul_right (1 + tb_S (iw (pg_2 p f) (ps_pe iw e))) hl
      have m2 := Nat.mul_le_mul_right (tb_O (iw (pg_2 p f) (ps_pe iw e))) hl
      refine ys_pre (Ob := tb_O (iw (pg_2 p f) (ps_pe iw e))) (eA := e) (rsA := rs) ok yp ar hf (by omega) (Or.inr ⟨by omega, rfl, rfl⟩) (ih _ e v c1T he hv (by omega) (by omega)) (by omega) (by omega) (by omega) hE hr h1 h2 h3 hF (fun s3 t3 ht3 hL => ?_)
      refine ys_loop (as := (ps_ev p N (pg_1 p f) e v).1) (za := (ps_ev p N (pg_1 p f) e v).2) (g := fun o => ps_ev p N (pg_2 p f) ((13, pg_a p f, (ps_bv o).1, (ps_bv o).2, 0) :: e) v) (cv := yr_cv p (pg_k p f)) (Fin := fun outs z => ∀ s' t', t' ≤ t + tb_S (iw (pg_1 p f) (ps_pe iw e) + iw (pg_2 p f) (ps_pe iw e) + 1) → yr_R d cnt outs (yr_z rs z) s s' → yr_W post li to mo gi ut uv hgh th ot nm on yk ya yh yo yr y1 y2 pa t' s') (B := tb_S (iw (pg_2 p f) (ps_pe iw e))) (tE := t + 1 + tb_S (iw (pg_1 p f) (ps_pe iw e)) + tb_O (iw (pg_1 p f) (ps_pe iw e)) * (1 + tb_S (iw (pg_2 p f) (ps_pe iw e)))) (fun pre o os prev acc raw s' t' has hL' ht' Hc => ?_) (fun x prev acc raw zc s' t' hL' _ cond ht' hFin => ?_) (ps_ev p N (pg_1 p f) e v).1 [] none [] [] none s3 t3 rfl hL (Or.inl rfl) (by omega) (fun s' t' ht' R => H s' t' ht' ?_)
      · have ho := hav o (ps_memx has)
        have heb : aw_e T 0 ((13, pg_a p f, (ps_bv o).1, (ps_bv o).2, 0) :: e) := aw_e_c he ⟨(show (13 : Nat) ≤ 17 by decide), (fun z => by cases z), (fun _ => aw_v_bv ho), (fun z => by cases z)⟩
        have hpe : ps_pe iw ((13, pg_a p f, (ps_bv o).1, (ps_bv o).2, 0) :: e) = ps_pe iw e := by rw [ps_pe, if_neg (by intro z; cases z)]
        have hlb := ps_ev_len ok N (pg_2 p f) _ v c2T (aw_e_ok ok.1 heb) (by rw [hpe]; omega)
        rw [hpe] at hlb
        have tt : t' + 1 + tb_S (iw (pg_2 p f) (ps_pe iw e)) ≤ 999999 := by rw [Nat.add_mul, Nat.one_mul] at ht'; omega
        refine ys_HsE (bn := pg_2 p f) (eb := (13, pg_a p f, (ps_bv o).1, (ps_bv o).2, 0) :: e) (vb := v) (rsb := d :: rs) (bt' := fun s => upd (y_bt s) d (ps_bv o).1) (bv' := fun s => upd (y_bv s) d (ps_bv o).2) ok yp hf hN hav hL' has (ih _ _ v c2T heb hv (by rw [hpe]; omega) (by rw [hpe]; omega)) hlb (ps_ev_v ok N _ 0 _ v c2T heb hv) (by rw [hpe]; omega) (by rw [hpe]; omega) (by rw [hpe]; exact Nat.le_refl _) tt (yr_z_isl (by intro z; cases z) hlen (fun l hz => ps_ev_isl _ _ _ _ _ hz)) (fun r h => ?_) (fun _ _ hj => ⟨pb_u hj, pb_u hj⟩) (fun s'' hfr hF' => ?_) (fun acc' s'' hL0 hcc hW => by rw [c, hy2]; exact ys_n13 (by omega) hN hcc ho has hL0 hW) Hc
        · rcases List.mem_cons.mp h with rfl | h
          · omega
          · have := hr r h; omega
        · exact ⟨f, hf, hF'.1, c, Or.inr (Or.inl rfl), fun _ => ⟨rfl, pk_us, pk_us⟩, (fun z => by cases z), hF'.2.1, hr, yr_e_ag (fun j hj => ⟨rfl, rfl, pb_u hj, pb_u hj⟩) hr (yr_e_fr hfr hr hE)⟩
      · exact ys_HoP ok hf (by omega) hN hav (by omega) hr (by omega) (by omega) (by omega) hL' cond (by omega) (by omega) hFin
      · have hg : (fun o => ((ps_ev p N (pg_2 p f) ((13, pg_a p f, (ps_bv o).1, (ps_bv o).2, 0) :: e) v).1.map (yr_cv p (pg_k p f) (some o)), (ps_ev p N (pg_2 p f) ((13, pg_a p f, (ps_bv o).1, (ps_bv o).2, 0) :: e) v).2)) = (fun o => ps_ev p N (pg_2 p f) ((13, pg_a p f, (ps_bv o).1, (ps_bv o).2, 0) :: e) v) := by
          funext o; rw [yr_cv_id (by omega)]
        rw [ps_ev13 c]
        simp only [if_true, hg] at R
        exact R
    · -- CALL
      have g2 := ps_iw14 (q := ps_pe iw e) ok hf c
      have c1T := ps_c1 ok hf (show 8 ≤ pg_k p f by omega)
      have c2T := ps_c2 ok hf (show 10 ≤ pg_k p f by omega)
      have hcl : (nI (pg_2 p f)).toNatClampNeg = pg_2 p f := nI_clamp (by omega)
      have hpe : ps_pe iw ((14, nI (pg_2 p f), 0, 0, 0) :: e) = iw (pg_2 p f) (ps_pe iw e) := by rw [ps_pe, if_pos rfl]; dsimp only; rw [hcl]
      have g3 := ps_iw_pos (q := iw (pg_2 p f) (ps_pe iw e)) ok c1T
      have tb := tb_c1 (iw (pg_1 p f) (iw (pg_2 p f) (ps_pe iw e))) (by omega) g3
      have heA : aw_e T 0 ((14, nI (pg_2 p f), 0, 0, 0) :: e) := aw_e_c he ⟨(show (14 : Nat) ≤ 17 by decide), (fun _ => ⟨pg_2 p f, c2T, rfl⟩), (fun z => by cases z), (fun z => by cases z)⟩
      have hl := ps_ev_len ok N (pg_1 p f) ((14, nI (pg_2 p f), 0, 0, 0) :: e) v c1T (aw_e_ok ok.1 heA) (by rw [hpe]; omega)
      have hav := ps_ev_v ok N (pg_1 p f) 0 ((14, nI (pg_2 p f), 0, 0, 0) :: e) v c1T heA hv
      have hzz := yr_z_isl (d := d) (x := (14, nI (pg_2 p f), 0, 0, 0)) (by intro z; cases z) hlen (fun l hz => ps_ev_isl (p := p) N (pg_1 p f) ((14, nI (pg_2 p f), 0, 0, 0) :: e) v l hz)
      rw [hpe] at hl
      rw [g2, Nat.add_comm 1] at hd hU ht H
      refine ys_pre (Ob := 1) (eA := (14, nI (pg_2 p f), 0, 0, 0) :: e) (rsA := d :: rs) ok yp ar hf (by omega) (Or.inl ⟨Or.inr c, rfl, _, rfl, c.symm, (fun _ => rfl)⟩) (ih _ _ v c1T heA hv (by rw [hpe]; omega) (by rw [hpe]; omega)) (by rw [hpe]; omega) (by rw [hpe]; omega) (by rw [hpe]; omega) hE hr h1 h2 h3 hF (fun s3 t3 ht3 hL => ?_)
      rw [hpe] at ht3
      rw [hzz] at hL
      refine ys_loop (as := (ps_ev p N (pg_1 p f) ((14, nI (pg_2 p f), 0, 0, 0) :: e) v).1) (za := (ps_ev p N (pg_1 p f) ((14, nI (pg_2 p f), 0, 0, 0) :: e) v).2) (g := fun o => ([o], none)) (cv := yr_cv p (pg_k p f)) (Fin := fun outs z => ∀ s' t', t' ≤ t + tb_S (iw (pg_1 p f) (iw (pg_2 p f) (ps_pe iw e)) + 1) → yr_R d cnt outs (yr_z rs z) s s' → yr_W post li to mo gi ut uv hgh th ot nm on yk ya yh yo yr y1 y2 pa t' s') (B := 0) (tE := t + 1 + tb_S (iw (pg_1 p f) (iw (pg_2 p f) (ps_pe iw e))) + tb_O (iw (pg_1 p f) (iw (pg_2 p f) (ps_pe iw e)))) (fun pre o os prev acc raw s' t' has hL' ht' Hc => ?_) (fun x prev acc raw zc s' t' hL' _ cond ht' hFin => ?_) (ps_ev p N (pg_1 p f) ((14, nI (pg_2 p f), 0, 0, 0) :: e) v).1 [] none [] [] none s3 t3 rfl hL (Or.inl rfl) (by omega) (fun s' t' ht' R => H s' t' ht' ?_)
      · exact ys_HsM (l := [o]) ok yp hf (by omega) (by omega) hN hav hL' has (Nat.le_refl 1) (fun q hq => by rw [List.mem_singleton.mp hq]; exact hav o (ps_memx has)) (by omega) (by omega) (fun acc' s'' hL0 hcc hW => by rw [c]; exact ys_n9 (Or.inr (Or.inr rfl)) hcc (by omega) hN (by omega) (hav o (ps_memx has)) has hL0 hW) Hc
      · exact ys_HoP ok hf (by omega) hN hav (by omega) hr (by omega) (by omega) (by omega) hL' cond (by omega) (by omega) hFin
      · have hg : (fun o => (([o] : List PV).map (yr_cv p (pg_k p f) (some o)), (none : Option Nat))) = (fun o => ([o], none)) := by
          funext o; rw [yr_cv_id (by omega)]
        rw [ps_ev14 c]
        simp only [if_true, hg, ps_bnd_one] at R
        exact R
    · -- ADD, LESS
      have g2 := ps_iw10 (q := ps_pe iw e) ok hf (by omega) (by omega) (by omega)
      have c1T := ps_c1 ok hf (show 8 ≤ pg_k p f by omega)
      have c2T := ps_c2 ok hf (show 10 ≤ pg_k p f by omega)
      have g3 := ps_iw_pos (q := ps_pe iw e) ok c1T
      have g4 := ps_iw_pos (q := ps_pe iw e) ok c2T
      have tb := tb_c2 (iw (pg_1 p f) (ps_pe iw e)) (by omega) (iw (pg_2 p f) (ps_pe iw e)) (by omega) g3 g4 (by omega)
      have ta := tb_c0 (iw (pg_1 p f) (ps_pe iw e)) (by omega) g3
      have tbb := tb_c0 (iw (pg_2 p f) (ps_pe iw e)) (by omega) g4
      have hl := ps_ev_len ok N (pg_1 p f) e v c1T heo (by omega)
      have hav := ps_ev_v ok N (pg_1 p f) 0 e v c1T he hv
      have hy2 : y2 f = nI (pg_2 p f) := (yp f hf).2.2.2.1 (by omega)
      rw [g2, show 1 + iw (pg_1 p f) (ps_pe iw e) + iw (pg_2 p f) (ps_pe iw e) = iw (pg_1 p f) (ps_pe iw e) + iw (pg_2 p f) (ps_pe iw e) + 1 by omega] at hd hU ht H
      have hUa := (tb_m g3 (show iw (pg_1 p f) (ps_pe iw e) ≤ iw (pg_1 p f) (ps_pe iw e) + iw (pg_2 p f) (ps_pe iw e) + 1 by omega) (by omega)).2.1
      have m1 := Nat.mul_le_mul_right (1 + tb_S (iw (pg_2 p f) (ps_pe iw e))) hl
      have m2 := Nat.mul_le_mul_right (tb_O (iw (pg_2 p f) (ps_pe iw e))) hl
      refine ys_pre (Ob := tb_O (iw (pg_2 p f) (ps_pe iw e))) (eA := e) (rsA := rs) ok yp ar hf (by omega) (Or.inr ⟨by omega, rfl, rfl⟩) (ih _ e v c1T he hv (by omega) (by omega)) (by omega) (by omega) (by omega) hE hr h1 h2 h3 hF (fun s3 t3 ht3 hL => ?_)
      refine ys_loop (as := (ps_ev p N (pg_1 p f) e v).1) (za := (ps_ev p N (pg_1 p f) e v).2) (g := fun _ => ps_ev p N (pg_2 p f) e v) (cv := yr_cv p (pg_k p f)) (Fin := fun outs z => ∀ s' t', t' ≤ t + tb_S (iw (pg_1 p f) (ps_pe iw e) + iw (pg_2 p f) (ps_pe iw e) + 1) → yr_R d cnt outs (yr_z rs z) s s' → yr_W post li to mo gi ut uv hgh th ot nm on yk ya yh yo yr y1 y2 pa t' s') (B := tb_S (iw (pg_2 p f) (ps_pe iw e))) (tE := t + 1 + tb_S (iw (pg_1 p f) (ps_pe iw e)) + tb_O (iw (pg_1 p f) (ps_pe iw e)) * (1 + tb_S (iw (pg_2 p f) (ps_pe iw e)))) (fun pre o os prev acc raw s' t' has hL' ht' Hc => ?_) (fun x prev acc raw zc s' t' hL' _ cond ht' hFin => ?_) (ps_ev p N (pg_1 p f) e v).1 [] none [] [] none s3 t3 rfl hL (Or.inl rfl) (by omega) (fun s' t' ht' R => H s' t' ht' ?_)
      · have ho := hav o (ps_memx has)
        have tt : t' + 1 + tb_S (iw (pg_2 p f) (ps_pe iw e)) ≤ 999999 := by rw [Nat.add_mul, Nat.one_mul] at ht'; omega
        exact ys_HsE (bn := pg_2 p f) (eb := e) (vb := v) (rsb := rs) (bt' := y_bt) (bv' := y_bv) ok yp hf hN hav hL' has (ih _ e v c2T he hv (by omega) (by omega)) (ps_ev_len ok N _ e v c2T heo (by omega)) (ps_ev_v ok N _ 0 e v c2T he hv) (by omega) (by omega) (Nat.le_refl _) tt rfl (fun r h => Nat.lt_succ_of_lt (hr r h)) (fun _ _ _ => ⟨rfl, rfl⟩) (fun s'' hfr _ => yr_e_fr hfr hr hE) (fun acc' s'' hL0 hcc hW => by rw [hy2]; exact ys_n15 c (by omega) hN hcc ho has hL0 hW) Hc
      · exact ys_HoP ok hf (by omega) hN hav (by omega) hr (by omega) (by omega) (by omega) hL' cond (by omega) (by omega) hFin
      · have hg : (fun o => ((ps_ev p N (pg_2 p f) e v).1.map (yr_cv p (pg_k p f) (some o)), (ps_ev p N (pg_2 p f) e v).2)) = (fun o => ((ps_ev p N (pg_2 p f) e v).1.map (fun q => ps_cmb (pg_k p f) (ps_num p o) (ps_num p q)), (ps_ev p N (pg_2 p f) e v).2)) := by
          funext o; rw [yr_cv_c c]
        rw [ps_ev15 c]
        simp only [if_true, hg] at R
        exact R
    · -- IF
      have g2 := ps_iw17 (q := ps_pe iw e) ok hf c
      have c1T := ps_c1 ok hf (show 8 ≤ pg_k p f by omega)
      have c2T := ps_c2 ok hf (show 10 ≤ pg_k p f by omega)
      have c3T := ps_c3 ok hf c
      have g3 := ps_iw_pos (q := ps_pe iw e) ok c1T
      have g4 := ps_iw_pos (q := ps_pe iw e) ok c2T
      have g5 := ps_iw_pos (q := ps_pe iw e) ok c3T
      have tb := tb_c2 (iw (pg_1 p f) (ps_pe iw e)) (by omega) (iw (pg_2 p f) (ps_pe iw e) + iw (pg_3 p f) (ps_pe iw e)) (by omega) g3 (by omega) (by omega)
      have ta := tb_c0 (iw (pg_1 p f) (ps_pe iw e)) (by omega) g3
      have mb := tb_m g4 (show iw (pg_2 p f) (ps_pe iw e) ≤ iw (pg_2 p f) (ps_pe iw e) + iw (pg_3 p f) (ps_pe iw e) by omega) (by omega)
      have mc := tb_m g5 (show iw (pg_3 p f) (ps_pe iw e) ≤ iw (pg_2 p f) (ps_pe iw e) + iw (pg_3 p f) (ps_pe iw e) by omega) (by omega)
      have hl := ps_ev_len ok N (pg_1 p f) e v c1T heo (by omega)
      have hav := ps_ev_v ok N (pg_1 p f) 0 e v c1T he hv
      have hy2 : y2 f = nI (pg_2 p f) := (yp f hf).2.2.2.1 (by omega)
      rw [g2, show 1 + iw (pg_1 p f) (ps_pe iw e) + iw (pg_2 p f) (ps_pe iw e) + iw (pg_3 p f) (ps_pe iw e) = iw (pg_1 p f) (ps_pe iw e) + (iw (pg_2 p f) (ps_pe iw e) + iw (pg_3 p f) (ps_pe iw e)) + 1 by omega] at hd hU ht H
      have hUa := (tb_m g3 (show iw (pg_1 p f) (ps_pe iw e) ≤ iw (pg_1 p f) (ps_pe iw e) + (iw (pg_2 p f) (ps_pe iw e) + iw (pg_3 p f) (ps_pe iw e)) + 1 by omega) (by omega)).2.1
      have m1 := Nat.mul_le_mul_right (1 + tb_S (iw (pg_2 p f) (ps_pe iw e) + iw (pg_3 p f) (ps_pe iw e))) hl
      have m2 := Nat.mul_le_mul_right (tb_O (iw (pg_2 p f) (ps_pe iw e) + iw (pg_3 p f) (ps_pe iw e))) hl
      refine ys_pre (Ob := tb_O (iw (pg_2 p f) (ps_pe iw e) + iw (pg_3 p f) (ps_pe iw e))) (eA := e) (rsA := rs) ok yp ar hf (by omega) (Or.inr ⟨by omega, rfl, rfl⟩) (ih _ e v c1T he hv (by omega) (by omega)) (by omega) (by omega) (by omega) hE hr h1 h2 h3 hF (fun s3 t3 ht3 hL => ?_)
      refine ys_loop (as := (ps_ev p N (pg_1 p f) e v).1) (za := (ps_ev p N (pg_1 p f) e v).2) (g := fun o => ps_ev p N (if ps_num p o = 0 then pg_3 p f else pg_2 p f) e v) (cv := yr_cv p (pg_k p f)) (Fin := fun outs z => ∀ s' t', t' ≤ t + tb_S (iw (pg_1 p f) (ps_pe iw e) + (iw (pg_2 p f) (ps_pe iw e) + iw (pg_3 p f) (ps_pe iw e)) + 1) → yr_R d cnt outs (yr_z rs z) s s' → yr_W post li to mo gi ut uv hgh th ot nm on yk ya yh yo yr y1 y2 pa t' s') (B := tb_S (iw (pg_2 p f) (ps_pe iw e) + iw (pg_3 p f) (ps_pe iw e))) (tE := t + 1 + tb_S (iw (pg_1 p f) (ps_pe iw e)) + tb_O (iw (pg_1 p f) (ps_pe iw e)) * (1 + tb_S (iw (pg_2 p f) (ps_pe iw e) + iw (pg_3 p f) (ps_pe iw e)))) (fun pre o os prev acc raw s' t' has hL' ht' Hc => ?_) (fun x prev acc raw zc s' t' hL' _ cond ht' hFin => ?_) (ps_ev p N (pg_1 p f) e v).1 [] none [] [] none s3 t3 rfl hL (Or.inl rfl) (by omega) (fun s' t' ht' R => H s' t' ht' ?_)
      · have ho := hav o (ps_memx has)
        have tt : t' + 1 + tb_S (iw (pg_2 p f) (ps_pe iw e) + iw (pg_3 p f) (ps_pe iw e)) ≤ 999999 := by rw [Nat.add_mul, Nat.one_mul] at ht'; omega
        have hbT : (if ps_num p o = 0 then pg_3 p f else pg_2 p f) < T := by split; exact c3T; exact c2T
        have hbw : iw (if ps_num p o = 0 then pg_3 p f else pg_2 p f) (ps_pe iw e) ≤ iw (pg_2 p f) (ps_pe iw e) + iw (pg_3 p f) (ps_pe iw e) ∧ tb_O (iw (if ps_num p o = 0 then pg_3 p f else pg_2 p f) (ps_pe iw e)) ≤ tb_O (iw (pg_2 p f) (ps_pe iw e) + iw (pg_3 p f) (ps_pe iw e)) ∧ tb_U (iw (if ps_num p o = 0 then pg_3 p f else pg_2 p f) (ps_pe iw e)) ≤ tb_U (iw (pg_2 p f) (ps_pe iw e) + iw (pg_3 p f) (ps_pe iw e)) ∧ tb_S (iw (if ps_num p o = 0 then pg_3 p f else pg_2 p f) (ps_pe iw e)) ≤ tb_S (iw (pg_2 p f) (ps_pe iw e) + iw (pg_3 p f) (ps_pe iw e)) := by
          split
          · exact ⟨by omega, mc⟩
          · exact ⟨by omega, mb⟩
        have hlb := ps_ev_len ok N (if ps_num p o = 0 then pg_3 p f else pg_2 p f) e v hbT heo (by omega)
        exact ys_HsE (bn := if ps_num p o = 0 then pg_3 p f else pg_2 p f) (eb := e) (vb := v) (rsb := rs) (bt' := y_bt) (bv' := y_bv) ok yp hf hN hav hL' has (ih _ e v hbT he hv (by omega) (by omega)) (by omega) (ps_ev_v ok N _ 0 e v hbT he hv) (by omega) (by omega) hbw.2.2.2 tt rfl (fun r h => Nat.lt_succ_of_lt (hr r h)) (fun _ _ _ => ⟨rfl, rfl⟩) (fun s'' hfr _ => yr_e_fr hfr hr hE) (fun acc' s'' hL0 hcc hW => by rw [c]; exact ys_n17 hy2 ((yp f hf).2.2.2.2 c) (by omega) hN hcc ho has hL0 hW) Hc
      · exact ys_HoP ok hf (by omega) hN hav (by omega) hr (by omega) (by omega) (by omega) hL' cond (by omega) (by omega) hFin
      · have hg : (fun o => ((ps_ev p N (if ps_num p o = 0 then pg_3 p f else pg_2 p f) e v).1.map (yr_cv p (pg_k p f) (some o)), (ps_ev p N (if ps_num p o = 0 then pg_3 p f else pg_2 p f) e v).2)) = (fun o => ps_ev p N (if ps_num p o = 0 then pg_3 p f else pg_2 p f) e v) := by
          funext o; rw [yr_cv_id (by omega)]
        rw [ps_ev17 c]
        simp only [if_true, hg] at R
        exact R
end
end
section
section
variable {p : PG} {iw : Nat → Nat → Nat} {T : Nat} {post : SY → Prop} {li to mo gi ut uv hgh cu de br : Int32} {th ot nm on yk ya yh yo yr y1 y2 fi ev it iv ph fr mi aT ed bt bv oT oV pa : Nat → Int32}
theorem ys_evaluate {N f j : Nat} (ok : ps_ok p iw T) (yp : yr_p p T yk ya y1 y2) (ar : ps_ar p T) (hP : th = pg_p p) (hN : nm = pg_n p) (hf : f < T) (hw : iw f 0 ≤ 24) (hwN : iw f 0 ≤ N) (hj : j < 40)
    (H : ∀ s' : YM, y_cu s' = nI (ps_ev p N f [] (2, nI j)).1.length → yr_sg (y_oT s') (y_oV s') 0 (ps_ev p N f [] (2, nI j)).1 → post (yr_st li to mo gi ut uv hgh th ot nm on yk ya yh yo yr y1 y2 pa s')) : wpY_evaluate post (li, to, mo, gi, ut, uv, hgh, cu, de, br, th, ot, nm, on, yk, ya, yh, yo, yr, y1, y2, fi, ev, it, iv, ph, fr, mi, aT, ed, bt, bv, oT, oV, pa) (nI f) (nI j) := by
  have cl : (0 : Int32).toNatClampNeg = 0 := by decide
  have hi : vp_in (0 : Int32) 64 := pb_in0 (by decide) (by decide)
  have hp := ps_iw_pos (q := 0) ok hf
  have t0 := tb_c0 (iw f 0) (by omega) hp
  refine br_f (by decide) (nm_r (e' := 0) (by decide) ⟨hi, nm_r (e' := upd fi 0 (nI f)) (by rw [cl]) ⟨hi, nm_r (e' := upd ev 0 (-1)) (by rw [cl]) ⟨hi, nm_r (e' := upd it 0 2) (by rw [cl]) ⟨hi, nm_r (e' := upd iv 0 (nI j)) (by rw [cl]) ⟨hi, nm_r (e' := upd ph 0 0) (by rw [cl]) ⟨hi, nm_r (e' := upd fr 0 0) (by rw [cl]) ?_⟩⟩⟩⟩⟩⟩)
  refine ⟨1000001, ?_⟩
  have q := ys_main (post := post) (li := li) (to := to) (mo := mo) (gi := gi) (ut := ut) (uv := uv) (hgh := hgh) (ot := ot) (on := on) (yh := yh) (yo := yo) (yr := yr) (pa := pa) ok yp ar hP hN N f [] (2, nI j) hf (fun x hx => by cases hx) (aw_v_i (Or.inr (Or.inr rfl)) hj) hwN hw 0 0 [] (0, 0, br, upd fi 0 (nI f), upd ev 0 (-1), upd it 0 2, upd iv 0 (nI j), upd ph 0 0, upd fr 0 0, mi, aT, ed, bt, bv, oT, oV) 0 (show 0 + iw f 0 ≤ 62 by omega) (show 0 + tb_U (iw f 0) ≤ 8192 by omega) (show 0 + tb_S (iw f 0) ≤ 999999 by omega) trivial (fun r hr => by cases hr) rfl rfl rfl ⟨rfl, rfl, rfl, rfl, rfl⟩ (fun s' t' ht' R => ?_)
  · exact q
  · have ht2 : t' ≤ 0 + tb_S (iw f 0) := ht'
    unfold yr_W
    rw [show 1000001 - t' = (1000000 - t') + 1 by omega]
    refine br_f (nI_ge (b := 1000000) (by omega) (by decide)) (br_t (by rw [R.1]; decide) ?_)
    have r2 := R.2.1
    rw [Nat.zero_add] at r2
    exact H s' r2 R.2.2.2.2.2.1
end
end
section
/-! ===== programs: the stack of filters after i tokens, weights, counts of parameters ===== -/
def pw_ops (k : Nat) : Nat := if k < 8 then 0 else if k < 10 then 1 else if k < 17 then 2 else 3
def pw_mx (n : Nat) : Nat := if n ≤ 1 then 1 else n
def pw_sm (w : Nat → Nat) : List Nat → Nat
  | [] => 0
  | y :: ys => w y + pw_sm w ys
def pw_wt (wt op : Nat → Nat) (k : Nat) (ys : List Nat) : Nat :=
  if k = 2 then 3 else if k = 14 then 1 + wt (ys.getD 0 0) + wt (ys.getD 1 0) * pw_mx (op (ys.getD 0 0)) else 1 + pw_sm wt ys
def pw_op (op : Nat → Nat) (k : Nat) (ys : List Nat) : Nat :=
  if k = 14 then op (ys.getD 0 0) * op (ys.getD 1 0) else (if k = 6 then 1 else 0) + pw_sm op ys
def pw_ar (k : Nat) (a : Int32) : Prop := (k = 1 → ¬ a < 0 ∧ ¬ 2 < a) ∧ (k = 4 → ¬ a < 0) ∧ (k = 6 ∨ k = 7 ∨ k = 9 ∨ k = 14 → a = 0)
def PW (p : PG) (wt op : Nat → Nat) (iw : Nat → Nat → Nat) (Y R : Nat → List Nat) (T : Nat) : Prop :=
  R 0 = [] ∧ ∀ i, i < T → pg_k p i ≤ 17 ∧ (Y i).length = pw_ops (pg_k p i) ∧ (∃ rest, R i = (Y i).reverse ++ rest ∧ R (i + 1) = i :: rest)
    ∧ pg_1 p i = (Y i).getD 0 0 ∧ pg_2 p i = (Y i).getD 1 0 ∧ pg_3 p i = (Y i).getD 2 0
    ∧ wt i = pw_wt wt op (pg_k p i) (Y i) ∧ op i = pw_op op (pg_k p i) (Y i) ∧ (∀ q, iw i q = ps_iwe p iw i q) ∧ pw_ar (pg_k p i) (pg_a p i)
theorem pw_sm_app {w : Nat → Nat} : ∀ {a b : List Nat}, pw_sm w (a ++ b) = pw_sm w a + pw_sm w b
  | [], b => by rw [List.nil_append, pw_sm, Nat.zero_add]
  | y :: a, b => by rw [List.cons_append, pw_sm, pw_sm, pw_sm_app, Nat.add_assoc]
theorem pw_sm_rev {w : Nat → Nat} : ∀ {a : List Nat}, pw_sm w a.reverse = pw_sm w a
  | [] => rfl
  | y :: a => by rw [List.reverse_cons, pw_sm_app, pw_sm_rev, pw_sm, pw_sm, pw_sm]; omega
theorem pw_sm_c {w w' : Nat → Nat} : ∀ {a : List Nat}, (∀ y, y ∈ a → w' y = w y) → pw_sm w' a = pw_sm w a
  | [], _ => rfl
  | y :: a, h => by rw [pw_sm, pw_sm, h y List.mem_cons_self, pw_sm_c (fun z hz => h z (List.mem_cons_of_mem _ hz))]
theorem pw_sm_le {w : Nat → Nat} {y : Nat} : ∀ {a : List Nat}, y ∈ a → w y ≤ pw_sm w a
  | [], h => by cases h
  | z :: a, h => by
    rw [pw_sm]
    rcases List.mem_cons.mp h with rfl | h
    · omega
    · have := pw_sm_le (w := w) h; omega
theorem pw_mx1 (n : Nat) : 1 ≤ pw_mx n ∧ n ≤ pw_mx n := by unfold pw_mx; split <;> omega
theorem pw_len {k : Nat} {ys : List Nat} (h : ys.length = pw_ops k) : (k < 8 → ys = []) ∧ (8 ≤ k → k < 10 → ∃ a, ys = [a]) ∧ (10 ≤ k → k < 17 → ∃ a b, ys = [a, b]) ∧ (17 ≤ k → ∃ a b c, ys = [a, b, c]) := by
  unfold pw_ops at h
  refine ⟨fun h1 => ?_, fun h1 h2 => ?_, fun h1 h2 => ?_, fun h1 => ?_⟩
  · rw [if_pos h1] at h; exact List.eq_nil_of_length_eq_zero h
  · rw [if_neg (by omega), if_pos h2] at h
    match ys, h with
    | [a], _ => exact ⟨a, rfl⟩
  · rw [if_neg (by omega), if_neg (by omega), if_pos h2] at h
    match ys, h with
    | [a, b], _ => exact ⟨a, b, rfl⟩
  · rw [if_neg (by omega), if_neg (by omega), if_neg (by omega)] at h
    match ys, h with
    | [a, b, c], _ => exact ⟨a, b, c, rfl⟩
/-- a filter weighs more than its operands together -/
theorem pw_wt_ge {wt op : Nat → Nat} {k : Nat} {ys : List Nat} (h : ys.length = pw_ops k) : 1 + pw_sm wt ys ≤ pw_wt wt op k ys := by
  have hl := pw_len h
  unfold pw_wt
  split
  · rw [hl.1 (by omega), pw_sm]; omega
  · split
    · obtain ⟨a, b, rfl⟩ := hl.2.2.1 (by omega) (by omega)
      show 1 + (wt a + (wt b + 0)) ≤ 1 + wt a + wt b * pw_mx (op a)
      have := Nat.mul_le_mul_left (wt b) (pw_mx1 (op a)).1
      omega
    · omega
theorem pw_op_le {wt op : Nat → Nat} {k : Nat} {ys : List Nat} (h : ys.length = pw_ops k) (ho : ∀ y, y ∈ ys → op y ≤ wt y) : pw_op op k ys ≤ pw_wt wt op k ys := by
  have hl := pw_len h
  have hs : ∀ {l : List Nat}, (∀ y, y ∈ l → op y ≤ wt y) → pw_sm op l ≤ pw_sm wt l := by
    intro l
    induction l with
    | nil => intro _; exact Nat.le_refl _
    | cons y l ih =>
      intro hh
      have a := hh y List.mem_cons_self
      have b := ih (fun z hz => hh z (List.mem_cons_of_mem _ hz))
      rw [pw_sm, pw_sm]; omega
  unfold pw_op pw_wt
  by_cases h14 : k = 14
  · rw [if_pos h14, if_neg (by omega), if_pos h14]
    obtain ⟨a, b, rfl⟩ := hl.2.2.1 (by omega) (by omega)
    show op a * op b ≤ 1 + wt a + wt b * pw_mx (op a)
    have h1 := Nat.mul_le_mul (pw_mx1 (op a)).2 (ho b (by simp))
    rw [Nat.mul_comm (pw_mx (op a))] at h1
    omega
  · rw [if_neg h14]
    by_cases h2 : k = 2
    · rw [if_pos h2, if_neg (by omega), hl.1 (by omega), pw_sm]; omega
    · rw [if_neg h2, if_neg h14]
      have := hs ho
      split <;> omega
section
variable {p : PG} {wt op : Nat → Nat} {iw : Nat → Nat → Nat} {Y R : Nat → List Nat} {T : Nat}
theorem pw_lt (h : PW p wt op iw Y R T) : ∀ {i : Nat}, i ≤ T → ∀ r, r ∈ R i → r < i := by
  intro i
  induction i with
  | zero => intro _ r hr; rw [h.1] at hr; cases hr
  | succ i ih =>
    intro hi r hr
    obtain ⟨_, _, ⟨rest, h1, h2⟩, _⟩ := h.2 i hi
    rw [h2] at hr
    rcases List.mem_cons.mp hr with rfl | hr
    · omega
    · have := ih (by omega) r (by rw [h1]; exact List.mem_append_right _ hr); omega
theorem pw_Y (h : PW p wt op iw Y R T) {i : Nat} (hi : i < T) : ∀ y, y ∈ Y i → y < i := by
  intro y hy
  obtain ⟨_, _, ⟨rest, h1, h2⟩, _⟩ := h.2 i hi
  exact pw_lt h (Nat.le_of_lt hi) y (by rw [h1]; exact List.mem_append_left _ (List.mem_reverse.mpr hy))
theorem pw_sum (h : PW p wt op iw Y R T) : ∀ {i : Nat}, i ≤ T → i ≤ pw_sm wt (R i) ∧ (R i).length ≤ i := by
  intro i
  induction i with
  | zero => intro _; rw [h.1]; exact ⟨Nat.le_refl _, Nat.le_refl _⟩
  | succ i ih =>
    intro hi
    obtain ⟨_, hl, ⟨rest, h1, h2⟩, _, _, _, hw, _⟩ := h.2 i hi
    have q := ih (by omega)
    rw [h1, pw_sm_app, pw_sm_rev, List.length_append, List.length_reverse] at q
    have g := pw_wt_ge (wt := wt) (op := op) hl
    rw [h2, pw_sm, hw, List.length_cons]
    omega
theorem pw_opw (h : PW p wt op iw Y R T) : ∀ {i : Nat}, i < T → op i ≤ wt i := by
  have key : ∀ n, ∀ i, i < n → i < T → op i ≤ wt i := by
    intro n
    induction n with
    | zero => intro i hi; omega
    | succ n ih =>
      intro i hi hT
      obtain ⟨_, hl, _, _, _, _, hw, ho, _⟩ := h.2 i hT
      rw [hw, ho]
      exact pw_op_le hl (fun y hy => ih y (by have := pw_Y h hT y hy; omega) (by have := pw_Y h hT y hy; omega))
  intro i hi
  exact key (i + 1) i (Nat.lt_succ_self i) hi
theorem pw_wt1 (h : PW p wt op iw Y R T) {i : Nat} (hi : i < T) : 1 ≤ wt i := by
  obtain ⟨_, hl, _, _, _, _, hw, _⟩ := h.2 i hi
  have g := pw_wt_ge (wt := wt) (op := op) hl
  rw [hw]; omega
theorem pw_top (h : PW p wt op iw Y R T) {i : Nat} (hi : i < T) : ∃ rest, R (i + 1) = i :: rest := by
  obtain ⟨_, _, ⟨rest, h1, h2⟩, _⟩ := h.2 i hi
  exact ⟨rest, h2⟩
theorem pw_ok (h : PW p wt op iw Y R T) (hT : T ≤ 32) : ps_ok p iw T := by
  refine ⟨hT, fun f hf => ?_⟩
  obtain ⟨hk, hl, _, e1, e2, e3, _, _, hi, _⟩ := h.2 f hf
  have hY := pw_Y h hf
  have hn := pw_len hl
  refine ⟨hk, fun h8 => ?_, fun h10 => ?_, fun h17 => ?_, hi⟩
  · rw [e1]
    by_cases a : pg_k p f < 10
    · obtain ⟨x, hx⟩ := hn.2.1 h8 a
      rw [hx]; exact hY x (by rw [hx]; simp)
    · by_cases b : pg_k p f < 17
      · obtain ⟨x, y, hx⟩ := hn.2.2.1 (by omega) b
        rw [hx]; exact hY x (by rw [hx]; simp)
      · obtain ⟨x, y, z, hx⟩ := hn.2.2.2 (by omega)
        rw [hx]; exact hY x (by rw [hx]; simp)
  · rw [e2]
    by_cases b : pg_k p f < 17
    · obtain ⟨x, y, hx⟩ := hn.2.2.1 (by omega) b
      rw [hx]; exact hY y (by rw [hx]; simp)
    · obtain ⟨x, y, z, hx⟩ := hn.2.2.2 (by omega)
      rw [hx]; exact hY y (by rw [hx]; simp)
  · rw [e3]
    obtain ⟨x, y, z, hx⟩ := hn.2.2.2 (by omega)
    rw [hx]; exact hY z (by rw [hx]; simp)
theorem pw_ars (h : PW p wt op iw Y R T) : ps_ar p T := fun i hi => (h.2 i hi).2.2.2.2.2.2.2.2.2
theorem pw_3 (h : PW p wt op iw Y R T) {i : Nat} (hi : i < T) (hk : pg_k p i = 17) : pg_3 p i + 1 = i := by
  obtain ⟨_, hl, ⟨rest, h1, h2⟩, e1, e2, e3, _⟩ := h.2 i hi
  obtain ⟨x, y, z, hx⟩ := (pw_len hl).2.2.2 (by omega)
  rw [hx] at h1 e3
  cases i with
  | zero => rw [h.1] at h1; cases h1
  | succ j =>
    obtain ⟨r', hr'⟩ := pw_top h (i := j) (by omega)
    rw [hr'] at h1
    have : j = z := (List.cons.inj h1).1
    rw [e3, this]; rfl
theorem pw_iw (h : PW p wt op iw Y R T) (hT32 : T ≤ 32) : ∀ {i : Nat}, i < T → ∀ q, iw i q ≤ wt i + op i * q := by
  have ok := pw_ok h hT32
  have key : ∀ n, ∀ i, i < n → i < T → ∀ q, iw i q ≤ wt i + op i * q := by
    intro n
    induction n with
    | zero => intro i hi; omega
    | succ n ih =>
      intro i hi hT q
      obtain ⟨hk, hl, _, e1, e2, e3, hw, ho, hiw, _⟩ := h.2 i hT
      have hY := pw_Y h hT
      have hn := pw_len hl
      rw [hw, ho]
      by_cases a8 : pg_k p i < 8
      · rw [hn.1 a8]
        by_cases a2 : pg_k p i = 2
        · rw [ps_iw2 ok hT a2, pw_wt, if_pos a2]; omega
        · by_cases a6 : pg_k p i = 6
          · rw [ps_iw6 ok hT a6, pw_wt, if_neg a2, if_neg (by omega), pw_op, if_neg (by omega), if_pos a6]; show 1 + q ≤ 1 + 0 + (1 + 0) * q; omega
          · rw [hiw q, ps_iwe, if_neg a2, if_neg a6, if_pos a8, pw_wt, if_neg a2, if_neg (by omega)]; omega
      · have n2 : ¬ pg_k p i = 2 := by omega
        have n6 : ¬ pg_k p i = 6 := by omega
        by_cases a10 : pg_k p i < 10
        · obtain ⟨x, hx⟩ := hn.2.1 (by omega) a10
          have n14 : ¬ pg_k p i = 14 := by omega
          rw [ps_iw8 ok hT (by omega), e1, hx, pw_wt, if_neg n2, if_neg n14, pw_op, if_neg n14, if_neg n6]
          have := ih x (by have := hY x (by rw [hx]; simp); omega) (by have := hY x (by rw [hx]; simp); omega) q
          show 1 + iw x q ≤ 1 + (wt x + 0) + (0 + (op x + 0)) * q
          rw [show 0 + (op x + 0) = op x by omega]
          omega
        · by_cases a17 : pg_k p i < 17
          · obtain ⟨x, y, hx⟩ := hn.2.2.1 (by omega) a17
            have qx := fun q => ih x (by have := hY x (by rw [hx]; simp); omega) (by have := hY x (by rw [hx]; simp); omega) q
            have qy := ih y (by have := hY y (by rw [hx]; simp); omega) (by have := hY y (by rw [hx]; simp); omega) q
            by_cases a14 : pg_k p i = 14
            · rw [ps_iw14 ok hT a14, e1, e2, hx, pw_wt, if_neg n2, if_pos a14, pw_op, if_pos a14]
              show 1 + iw x (iw y q) ≤ 1 + wt x + wt y * pw_mx (op x) + op x * op y * q
              have h1 := qx (iw y q)
              have h2 := Nat.mul_le_mul_left (op x) qy
              rw [Nat.mul_add, ← Nat.mul_assoc] at h2
              have h3 := Nat.mul_le_mul_right (wt y) (pw_mx1 (op x)).2
              rw [Nat.mul_comm (pw_mx (op x))] at h3
              omega
            · rw [ps_iw10 ok hT (by omega) a17 a14, e1, e2, hx, pw_wt, if_neg n2, if_neg a14, pw_op, if_neg a14, if_neg n6]
              show 1 + iw x q + iw y q ≤ 1 + (wt x + (wt y + 0)) + (0 + (op x + (op y + 0))) * q
              have h1 := qx q
              rw [show 0 + (op x + (op y + 0)) = op x + op y by omega, Nat.add_mul]
              omega
          · obtain ⟨x, y, z, hx⟩ := hn.2.2.2 (by omega)
            have n14 : ¬ pg_k p i = 14 := by omega
            rw [ps_iw17 ok hT (by omega), e1, e2, e3, hx, pw_wt, if_neg n2, if_neg n14, pw_op, if_neg n14, if_neg n6]
            have qx := ih x (by have := hY x (by rw [hx]; simp); omega) (by have := hY x (by rw [hx]; simp); omega) q
            have qy := ih y (by have := hY y (by rw [hx]; simp); omega) (by have := hY y (by rw [hx]; simp); omega) q
            have qz := ih z (by have := hY z (by rw [hx]; simp); omega) (by have := hY z (by rw [hx]; simp); omega) q
            show 1 + iw x q + iw y q + iw z q ≤ 1 + (wt x + (wt y + (wt z + 0))) + (0 + (op x + (op y + (op z + 0)))) * q
            rw [show 0 + (op x + (op y + (op z + 0))) = op x + op y + op z by omega, Nat.add_mul, Nat.add_mul]
            omega
  intro i hi q
  exact key (i + 1) i (Nat.lt_succ_self i) hi q
end
end
section
/-! ===== one more token ===== -/
def pw_u {α : Type} (f : Nat → α) (T : Nat) (x : α) : Nat → α := fun i => if i = T then x else f i
theorem pw_us {α : Type} {f : Nat → α} {T : Nat} {x : α} : pw_u f T x T = x := if_pos rfl
theorem pw_un {α : Type} {f : Nat → α} {T i : Nat} {x : α} (h : i ≠ T) : pw_u f T x i = f i := if_neg h
def pw_p (p : PG) (T k : Nat) (a : Int32) (ys : List Nat) : PG := (pw_u (pg_k p) T k, pw_u (pg_a p) T a, pw_u (pg_1 p) T (ys.getD 0 0), pw_u (pg_2 p) T (ys.getD 1 0), pw_u (pg_3 p) T (ys.getD 2 0), pg_p p, pg_n p)
theorem pw_wt_c {wt op wt' op' : Nat → Nat} {k : Nat} {ys : List Nat} (hl : ys.length = pw_ops k) (h : ∀ y, y ∈ ys → wt' y = wt y ∧ op' y = op y) : pw_wt wt' op' k ys = pw_wt wt op k ys := by
  unfold pw_wt
  split
  · rfl
  · split
    · obtain ⟨a, b, rfl⟩ := (pw_len hl).2.2.1 (by omega) (by omega)
      show 1 + wt' a + wt' b * pw_mx (op' a) = 1 + wt a + wt b * pw_mx (op a)
      rw [(h a (by simp)).1, (h b (by simp)).1, (h a (by simp)).2]
    · rw [pw_sm_c (fun y hy => (h y hy).1)]
theorem pw_op_c {op op' : Nat → Nat} {k : Nat} {ys : List Nat} (hl : ys.length = pw_ops k) (h : ∀ y, y ∈ ys → op' y = op y) : pw_op op' k ys = pw_op op k ys := by
  unfold pw_op
  split
  · obtain ⟨a, b, rfl⟩ := (pw_len hl).2.2.1 (by omega) (by omega)
    show op' a * op' b = op a * op b
    rw [h a (by simp), h b (by simp)]
  · rw [pw_sm_c h]
theorem pw_iwe_c {p p' : PG} {iw iw' : Nat → Nat → Nat} {i q : Nat} {ys : List Nat} (hl : ys.length = pw_ops (pg_k p i)) (hk17 : pg_k p i ≤ 17) (e1 : pg_1 p i = ys.getD 0 0) (e2 : pg_2 p i = ys.getD 1 0) (e3 : pg_3 p i = ys.getD 2 0) (hk : pg_k p' i = pg_k p i) (g1 : pg_1 p' i = pg_1 p i) (g2 : pg_2 p' i = pg_2 p i) (g3 : pg_3 p' i = pg_3 p i) (h : ∀ y, y ∈ ys → iw' y = iw y) : ps_iwe p' iw' i q = ps_iwe p iw i q := by
  have hn := pw_len hl
  rw [ps_iwe, ps_iwe, hk, g1, g2, g3, e1, e2, e3]
  by_cases a8 : pg_k p i < 8
  · split
    · rfl
    · split
      · rfl
      · rfl
  · by_cases a10 : pg_k p i < 10
    · obtain ⟨x, hx⟩ := hn.2.1 (by omega) a10
      rw [hx]
      have := h x (by rw [hx]; simp)
      show (if pg_k p i = 2 then 3 else if pg_k p i = 6 then 1 + q else if pg_k p i < 8 then 1 else if pg_k p i < 10 then 1 + iw' x q else _) = (if pg_k p i = 2 then 3 else if pg_k p i = 6 then 1 + q else if pg_k p i < 8 then 1 else if pg_k p i < 10 then 1 + iw x q else _)
      rw [if_pos a10, if_pos a10, this]
    · by_cases a17 : pg_k p i < 17
      · obtain ⟨x, y, hx⟩ := hn.2.2.1 (by omega) a17
        rw [hx]
        have hx1 : iw' ([x, y].getD 0 0) = iw ([x, y].getD 0 0) := h x (by rw [hx]; simp)
        have hy1 : iw' ([x, y].getD 1 0) = iw ([x, y].getD 1 0) := h y (by rw [hx]; simp)
        rw [hx1, hy1, if_pos a17, if_pos a17]
      · obtain ⟨x, y, z, hx⟩ := hn.2.2.2 (by omega)
        rw [hx]
        have hx1 : iw' ([x, y, z].getD 0 0) = iw ([x, y, z].getD 0 0) := h x (by rw [hx]; simp)
        have hy1 : iw' ([x, y, z].getD 1 0) = iw ([x, y, z].getD 1 0) := h y (by rw [hx]; simp)
        have hz1 : iw' ([x, y, z].getD 2 0) = iw ([x, y, z].getD 2 0) := h z (by rw [hx]; simp)
        rw [hx1, hy1, hz1]
theorem pw_ext {p : PG} {wt op : Nat → Nat} {iw : Nat → Nat → Nat} {Y R : Nat → List Nat} {T k : Nat} {a : Int32} {ys rest : List Nat} (h : PW p wt op iw Y R T) (hR : R T = ys.reverse ++ rest) (hl : ys.length = pw_ops k) (hk : k ≤ 17) (ha : pw_ar k a) :
    PW (pw_p p T k a ys) (pw_u wt T (pw_wt wt op k ys)) (pw_u op T (pw_op op k ys)) (pw_u iw T (fun q => ps_iwe (pw_p p T k a ys) iw T q)) (pw_u Y T ys) (pw_u R (T + 1) (T :: rest)) (T + 1) := by
  have hys : ∀ y, y ∈ ys → y < T := fun y hy => pw_lt h (Nat.le_refl T) y (by rw [hR]; exact List.mem_append_left _ (List.mem_reverse.mpr hy))
  refine ⟨?_, fun i hi => ?_⟩
  · rw [pw_un (by omega)]; exact h.1
  · by_cases e : i = T
    · subst e
      have ek : pg_k (pw_p p i k a ys) i = k := pw_us
      have ea : pg_a (pw_p p i k a ys) i = a := pw_us
      have e1 : pg_1 (pw_p p i k a ys) i = ys.getD 0 0 := pw_us
      have e2 : pg_2 (pw_p p i k a ys) i = ys.getD 1 0 := pw_us
      have e3 : pg_3 (pw_p p i k a ys) i = ys.getD 2 0 := pw_us
      rw [ek, ea, e1, e2, e3, pw_us (f := Y), pw_us (f := wt), pw_us (f := op)]
      refine ⟨hk, hl, ⟨rest, ?_, pw_us⟩, rfl, rfl, rfl, ?_, ?_, fun q => ?_, ha⟩
      · rw [pw_un (by omega)]; exact hR
      · exact (pw_wt_c hl (fun y hy => by have := hys y hy; exact ⟨pw_un (by omega), pw_un (by omega)⟩)).symm
      · exact (pw_op_c hl (fun y hy => by have := hys y hy; exact pw_un (by omega))).symm
      · rw [pw_us]
        exact (pw_iwe_c (p := pw_p p i k a ys) (ys := ys) (by rw [ek]; exact hl) (by rw [ek]; exact hk) e1 e2 e3 rfl rfl rfl rfl (fun y hy => by have := hys y hy; exact pw_un (by omega))).symm
    · have hi' : i < T := by omega
      obtain ⟨h1, h2, ⟨rs, h3, h4⟩, h5, h6, h7, h8, h9, h10, h11⟩ := h.2 i hi'
      have hY := pw_Y h hi'
      have ek : pg_k (pw_p p T k a ys) i = pg_k p i := pw_un e
      have ea : pg_a (pw_p p T k a ys) i = pg_a p i := pw_un e
      have e1 : pg_1 (pw_p p T k a ys) i = pg_1 p i := pw_un e
      have e2 : pg_2 (pw_p p T k a ys) i = pg_2 p i := pw_un e
      have e3 : pg_3 (pw_p p T k a ys) i = pg_3 p i := pw_un e
      rw [ek, ea, e1, e2, e3, pw_un (f := Y) e, pw_un (f := wt) e, pw_un (f := op) e, pw_un (f := iw) e]
      refine ⟨h1, h2, ⟨rs, ?_, ?_⟩, h5, h6, h7, ?_, ?_, fun q => ?_, h11⟩
      · rw [pw_un (by omega)]; exact h3
      · rw [pw_un (by omega)]; exact h4
      · rw [h8]
        exact (pw_wt_c h2 (fun y hy => by have := hY y hy; exact ⟨pw_un (by omega), pw_un (by omega)⟩)).symm
      · rw [h9]
        exact (pw_op_c h2 (fun y hy => by have := hY y hy; exact pw_un (by omega))).symm
      · rw [h10 q]
        exact (pw_iwe_c (ys := Y i) h2 h1 h5 h6 h7 ek e1 e2 e3 (fun y hy => by have := hY y hy; exact pw_un (by omega))).symm
end
section
/-! ===== the component's token ===== -/
def sk_r (wt op : Nat → Nat) (ro we o : Nat → Int32) : List Nat → Prop
  | [] => True
  | r :: rs => ro rs.length = nI r ∧ we rs.length = nI (wt r) ∧ o rs.length = nI (op r) ∧ sk_r wt op ro we o rs
theorem sk_tl {wt op : Nat → Nat} {ro we o : Nat → Int32} {rest : List Nat} : ∀ {a : List Nat}, sk_r wt op ro we o (a ++ rest) → sk_r wt op ro we o rest
  | [], h => h
  | _ :: _, h => sk_tl h.2.2.2
theorem sk_at {wt op : Nat → Nat} {ro we o : Nat → Int32} {a rest : List Nat} {y : Nat} (h : sk_r wt op ro we o (a ++ y :: rest)) : ro rest.length = nI y ∧ we rest.length = nI (wt y) ∧ o rest.length = nI (op y) := by
  have := sk_tl h
  exact ⟨this.1, this.2.1, this.2.2.1⟩
theorem sk_c {wt op wt' op' : Nat → Nat} {ro we o ro' we' o' : Nat → Int32} : ∀ {l : List Nat}, (∀ r, r ∈ l → wt' r = wt r ∧ op' r = op r) → (∀ j, j < l.length → ro' j = ro j ∧ we' j = we j ∧ o' j = o j) → sk_r wt op ro we o l → sk_r wt' op' ro' we' o' l
  | [], _, _, _ => trivial
  | r :: rs, h1, h2, h => by
    have q := h2 rs.length (Nat.lt_succ_self _)
    have w := h1 r List.mem_cons_self
    exact ⟨q.1.trans h.1, q.2.1.trans (by rw [w.1]; exact h.2.1), q.2.2.trans (by rw [w.2]; exact h.2.2.1), sk_c (fun z hz => h1 z (List.mem_cons_of_mem _ hz)) (fun j hj => h2 j (Nat.lt_succ_of_lt hj)) h.2.2.2⟩
theorem sk_rc {y : Nat} {ys rest : List Nat} : (y :: ys).reverse ++ rest = ys.reverse ++ y :: rest := by rw [List.reverse_cons, List.append_assoc]; rfl
section
variable {wt op' : Nat → Nat} {post : Int32 → Prop} {k0 k1 k2 k3 k4 k5 k6 k7 k8 k9 k10 rm tc fc tw ht ft md nd en co vk vl st fe : Int32} {pr nu np nn tg ka ar c1 c2 c3 ro we op cT cN cE cK cV cX gN gE gC gK gV gH gT : Nat → Int32}
theorem xt_w59 : ∀ {ys rest : List Nat} {acc : Nat}, sk_r wt op' ro we op (ys.reverse ++ rest) → rest.length + ys.length ≤ 32 → fc = nI (rest.length + ys.length) → post (nI (acc + pw_sm wt ys)) → wX_weightOf_59 post k0 k1 k2 k3 k4 k5 k6 k7 k8 k9 k10 rm tc fc tw ht ft md nd en co vk vl st fe pr nu np nn tg ka ar c1 c2 c3 ro we op cT cN cE cK cV cX gN gE gC gK gV gH gT (ys.length + 1) (nI acc) (nI rest.length)
  | [], rest, acc, _, hl, hf, H => br_t (by rw [hf]; exact Int32.le_refl _) H
  | y :: ys, rest, acc, hs, hl, hf, H => by
    rw [sk_rc] at hs
    rw [List.length_cons] at hl hf
    have ha := sk_at hs
    have cl : (nI rest.length).toNatClampNeg = rest.length := nI_clamp (by omega)
    refine br_f (by rw [hf]; exact nI_ge (by omega) (by omega)) ⟨vp_in_nI (by omega) (by omega), nm_r (e' := nI (acc + wt y)) (by rw [cl, ha.2.1, nI_add]) (nm_r (nI_1 rest.length) ?_)⟩
    refine xt_w59 (rest := y :: rest) hs (by rw [List.length_cons]; omega) (by rw [hf, List.length_cons]; exact congrArg nI (by omega)) ?_
    rw [pw_sm, ← Nat.add_assoc] at H; exact H
theorem xt_o37 : ∀ {ys rest : List Nat} {acc : Nat}, sk_r wt op' ro we op (ys.reverse ++ rest) → rest.length + ys.length ≤ 32 → fc = nI (rest.length + ys.length) → post (nI (acc + pw_sm op' ys)) → wX_opensOf_37 post k0 k1 k2 k3 k4 k5 k6 k7 k8 k9 k10 rm tc fc tw ht ft md nd en co vk vl st fe pr nu np nn tg ka ar c1 c2 c3 ro we op cT cN cE cK cV cX gN gE gC gK gV gH gT (ys.length + 1) (nI acc) (nI rest.length)
  | [], rest, acc, _, hl, hf, H => br_t (by rw [hf]; exact Int32.le_refl _) H
  | y :: ys, rest, acc, hs, hl, hf, H => by
    rw [sk_rc] at hs
    rw [List.length_cons] at hl hf
    have ha := sk_at hs
    have cl : (nI rest.length).toNatClampNeg = rest.length := nI_clamp (by omega)
    refine br_f (by rw [hf]; exact nI_ge (by omega) (by omega)) ⟨vp_in_nI (by omega) (by omega), nm_r (e' := nI (acc + op' y)) (by rw [cl, ha.2.2, nI_add]) (nm_r (nI_1 rest.length) ?_)⟩
    refine xt_o37 (rest := y :: rest) hs (by rw [List.length_cons]; omega) (by rw [hf, List.length_cons]; exact congrArg nI (by omega)) ?_
    rw [pw_sm, ← Nat.add_assoc] at H; exact H
theorem xt_weightOf {k : Nat} {ys rest : List Nat} (hk : k ≤ 17) (hl : ys.length = pw_ops k) (hb : ∀ y, y ∈ ys → op' y < 1000) (hs : sk_r wt op' ro we op (ys.reverse ++ rest)) (hn : rest.length + ys.length ≤ 32) (hf : fc = nI (rest.length + ys.length)) (H : post (nI (pw_wt wt op' k ys))) : wpX_weightOf post (k0, k1, k2, k3, k4, k5, k6, k7, k8, k9, k10, rm, tc, fc, tw, ht, ft, md, nd, en, co, vk, vl, st, fe, pr, nu, np, nn, tg, ka, ar, c1, c2, c3, ro, we, op, cT, cN, cE, cK, cV, cX, gN, gE, gC, gK, gV, gH, gT) (nI k) (nI rest.length) := by
  unfold pw_wt at H
  by_cases h2 : k = 2
  · rw [if_pos h2] at H
    exact br_t (by rw [h2]; rfl) H
  · rw [if_neg h2] at H
    refine br_f (pb_ne (b := 2) (by omega) (by decide) h2) ?_
    by_cases h14 : k = 14
    · rw [if_pos h14] at H
      obtain ⟨a, b, rfl⟩ := (pw_len hl).2.2.1 (by omega) (by omega)
      have hn' : rest.length + 2 ≤ 32 := hn
      have ha := sk_at (a := [b]) (y := a) (rest := rest) hs
      have hbb := sk_at (a := []) (y := b) (rest := a :: rest) hs
      rw [List.length_cons] at hbb
      have cl : (nI rest.length).toNatClampNeg = rest.length := nI_clamp (by omega)
      have hi : vp_in (nI rest.length) 32 := vp_in_nI (by omega) (by omega)
      have e1 : nI rest.length + 1 = nI (rest.length + 1) := nI_1 _
      have cl1 : (nI (rest.length + 1)).toNatClampNeg = rest.length + 1 := nI_clamp (by omega)
      have hi1 : vp_in (nI rest.length + 1) 32 := by rw [e1]; exact vp_in_nI (by omega) (by omega)
      have hoa := hb a (by simp)
      have H' : post (nI (1 + wt a + wt b * pw_mx (op' a))) := H
      have fin : ∀ z, z = nI (pw_mx (op' a)) → wX_weightOf_33 post (nI rest.length) z k0 k1 k2 k3 k4 k5 k6 k7 k8 k9 k10 rm tc fc tw ht ft md nd en co vk vl st fe pr nu np nn tg ka ar c1 c2 c3 ro we op cT cN cE cK cV cX gN gE gC gK gV gH gT := by
        intro z hz
        refine ⟨hi, hi1, ?_⟩
        rw [e1, cl, cl1, ha.2.1, hbb.2.1, hz, pk_mul]
        have e2 : (1 : Int32) + nI (wt a) + nI (wt b * pw_mx (op' a)) = nI (1 + wt a + wt b * pw_mx (op' a)) := by
          show nI 1 + nI (wt a) + nI (wt b * pw_mx (op' a)) = _
          rw [nI_add, nI_add]
        rw [e2]; exact H'
      refine br_t (by rw [h14]; rfl) ⟨hi, ?_⟩
      by_cases ho : op' a ≤ 1
      · refine br_t (by rw [cl, ha.2.2]; exact nI_le (b := 1) ho (by decide)) (fin 1 ?_)
        unfold pw_mx; rw [if_pos ho]; rfl
      · refine br_f (by rw [cl, ha.2.2]; exact nI_ge (a := 1) (by omega) (by omega)) ⟨hi, ?_⟩
        rw [cl, ha.2.2]
        refine fin _ ?_
        unfold pw_mx; rw [if_neg ho]
    · rw [if_neg h14] at H
      exact br_f (pb_ne (b := 14) (by omega) (by decide) h14) ⟨ys.length + 1, xt_w59 (acc := 1) hs hn hf H⟩
theorem xt_opensOf {k : Nat} {ys rest : List Nat} (hk : k ≤ 17) (hl : ys.length = pw_ops k) (hs : sk_r wt op' ro we op (ys.reverse ++ rest)) (hn : rest.length + ys.length ≤ 32) (hf : fc = nI (rest.length + ys.length)) (H : post (nI (pw_op op' k ys))) : wpX_opensOf post (k0, k1, k2, k3, k4, k5, k6, k7, k8, k9, k10, rm, tc, fc, tw, ht, ft, md, nd, en, co, vk, vl, st, fe, pr, nu, np, nn, tg, ka, ar, c1, c2, c3, ro, we, op, cT, cN, cE, cK, cV, cX, gN, gE, gC, gK, gV, gH, gT) (nI k) (nI rest.length) := by
  unfold pw_op at H
  by_cases h14 : k = 14
  · rw [if_pos h14] at H
    obtain ⟨a, b, rfl⟩ := (pw_len hl).2.2.1 (by omega) (by omega)
    have hn' : rest.length + 2 ≤ 32 := hn
    have ha := sk_at (a := [b]) (y := a) (rest := rest) hs
    have hbb := sk_at (a := []) (y := b) (rest := a :: rest) hs
    rw [List.length_cons] at hbb
    have cl : (nI rest.length).toNatClampNeg = rest.length := nI_clamp (by omega)
    have hi : vp_in (nI rest.length) 32 := vp_in_nI (by omega) (by omega)
    have e1 : nI rest.length + 1 = nI (rest.length + 1) := nI_1 _
    have cl1 : (nI (rest.length + 1)).toNatClampNeg = rest.length + 1 := nI_clamp (by omega)
    have hi1 : vp_in (nI rest.length + 1) 32 := by rw [e1]; exact vp_in_nI (by omega) (by omega)
    refine br_t (by rw [h14]; rfl) ⟨hi, hi1, ?_⟩
    rw [e1, cl, cl1, ha.2.2, hbb.2.2, pk_mul]
    exact H
  · rw [if_neg h14] at H
    refine br_f (pb_ne (b := 14) (by omega) (by decide) h14) ?_
    by_cases h6 : k = 6
    · rw [if_pos h6] at H
      exact br_t (by rw [h6]; rfl) ⟨ys.length + 1, xt_o37 (acc := 1) hs hn hf H⟩
    · rw [if_neg h6] at H
      exact br_f (pb_ne (b := 6) (by omega) (by decide) h6) ⟨ys.length + 1, xt_o37 (acc := 0) hs hn hf H⟩
theorem xt_operands {k : Nat} (hk : k ≤ 17) (H : post (nI (pw_ops k))) : wpX_operandsOf post (k0, k1, k2, k3, k4, k5, k6, k7, k8, k9, k10, rm, tc, fc, tw, ht, ft, md, nd, en, co, vk, vl, st, fe, pr, nu, np, nn, tg, ka, ar, c1, c2, c3, ro, we, op, cT, cN, cE, cK, cV, cX, gN, gE, gC, gK, gV, gH, gT) (nI k) := by
  unfold pw_ops at H
  by_cases h7 : 7 < k
  · rw [if_neg (by omega)] at H
    refine br_t (nI_lt (a := 7) h7 (by omega)) ?_
    by_cases h9 : 9 < k
    · rw [if_neg (by omega)] at H
      refine br_t (nI_lt (a := 9) h9 (by omega)) ?_
      by_cases h16 : 16 < k
      · rw [if_neg (by omega)] at H
        exact br_t (nI_lt (a := 16) h16 (by omega)) H
      · rw [if_pos (by omega)] at H
        exact br_f (nI_nlt (a := 16) (by omega) (by decide)) H
    · rw [if_pos (by omega)] at H
      exact br_f (nI_nlt (a := 9) (by omega) (by decide)) H
  · rw [if_pos (by omega)] at H
    exact br_f (nI_nlt (a := 7) (by omega) (by decide)) H
end
section
variable {wt op' : Nat → Nat} {post : SX → Prop} {k0 k1 k2 k3 k4 k5 k6 k7 k8 k9 k10 rm tc fc tw ht ft md nd en co vk vl st fe : Int32} {pr nu np nn tg ka ar c1 c2 c3 ro we op cT cN cE cK cV cX gN gE gC gK gV gH gT : Nat → Int32}
theorem xt_add {T k : Nat} {a : Int32} {ys rest : List Nat} (hT : T < 32) (h3 : ys.length ≤ 3) (hs : sk_r wt op' ro we op (ys.reverse ++ rest)) (hn : rest.length + ys.length ≤ 29) (H : post (k0, k1, k2, k3, k4, k5, k6, k7, k8, k9, k10, rm, nI (T + 1), nI (rest.length + ys.length), tw, ht, ft, md, nd, en, co, vk, vl, st, fe, pr, nu, np, nn, tg, upd ka T (nI k), upd ar T a, upd c1 T (nI (ys.getD 0 0)), upd c2 T (nI (ys.getD 1 0)), upd c3 T (nI (ys.getD 2 0)), ro, we, op, cT, cN, cE, cK, cV, cX, gN, gE, gC, gK, gV, gH, gT)) : wpX_addToken post (k0, k1, k2, k3, k4, k5, k6, k7, k8, k9, k10, rm, nI T, nI (rest.length + ys.length), tw, ht, ft, md, nd, en, co, vk, vl, st, fe, pr, nu, np, nn, tg, ka, ar, c1, c2, c3, ro, we, op, cT, cN, cE, cK, cV, cX, gN, gE, gC, gK, gV, gH, gT) (nI k) a (nI rest.length) := by
  have cl : (nI T).toNatClampNeg = T := nI_clamp (by omega)
  have hi : vp_in (nI T) 32 := vp_in_nI (by omega) (by omega)
  have e1 : nI rest.length + 1 = nI (rest.length + 1) := nI_1 _
  have e2 : nI rest.length + 2 = nI (rest.length + 2) := by show nI rest.length + nI 2 = _; rw [nI_add]
  have c0 : (nI rest.length).toNatClampNeg = rest.length := nI_clamp (by omega)
  have c1' : (nI (rest.length + 1)).toNatClampNeg = rest.length + 1 := nI_clamp (by omega)
  have c2' : (nI (rest.length + 2)).toNatClampNeg = rest.length + 2 := nI_clamp (by omega)
  have g3 : ∀ z, z = nI (ys.getD 1 0) → wX_addToken_75 post (nI rest.length) (nI T) z (nI T) k0 k1 k2 k3 k4 k5 k6 k7 k8 k9 k10 rm (nI T) (nI (rest.length + ys.length)) tw ht ft md nd en co vk vl st fe pr nu np nn tg (upd ka T (nI k)) (upd ar T a) (upd c1 T (nI (ys.getD 0 0))) c2 c3 ro we op cT cN cE cK cV cX gN gE gC gK gV gH gT := by
    intro z hz
    refine ⟨hi, nm_r (e' := upd c2 T (nI (ys.getD 1 0))) (by rw [cl, hz]) ?_⟩
    by_cases h : ys.length ≤ 2
    · have hg : ys.getD 2 0 = 0 := by
        match ys, h with
        | [], _ => rfl
        | [_], _ => rfl
        | [_, _], _ => rfl
      rw [hg] at H
      exact br_t (by rw [e2]; exact nI_le (by omega) (by omega)) ⟨hi, nm_r (e' := upd c3 T (nI 0)) (by rw [cl]; rfl) (nm_r (nI_1 T) H)⟩
    · match ys, h, h3, hs, H with
      | [_], h, _, _, _ => exact absurd (by simp) h
      | [_, _], h, _, _, _ => exact absurd (by simp) h
      | [x, y, w], _, _, hs, H =>
        have := sk_at (a := []) (y := w) (rest := y :: x :: rest) hs
        rw [List.length_cons, List.length_cons] at this
        refine br_f (by rw [e2]; exact nI_ge (by simp) (by simp at hn ⊢; omega)) ⟨by rw [e2]; exact vp_in_nI (by simp at hn; omega) (by omega), hi, nm_r (e' := upd c3 T (nI w)) (by rw [cl, e2, c2']; rw [this.1]) (nm_r (nI_1 T) H)⟩
  have g2 : ∀ z, z = nI (ys.getD 0 0) → wX_addToken_46 post (nI rest.length) (nI T) z (nI T) k0 k1 k2 k3 k4 k5 k6 k7 k8 k9 k10 rm (nI T) (nI (rest.length + ys.length)) tw ht ft md nd en co vk vl st fe pr nu np nn tg (upd ka T (nI k)) (upd ar T a) c1 c2 c3 ro we op cT cN cE cK cV cX gN gE gC gK gV gH gT := by
    intro z hz
    refine ⟨hi, nm_r (e' := upd c1 T (nI (ys.getD 0 0))) (by rw [cl, hz]) ?_⟩
    by_cases h : ys.length ≤ 1
    · have hg : ys.getD 1 0 = 0 := by
        match ys, h with
        | [], _ => rfl
        | [_], _ => rfl
      exact br_t (by rw [e1]; exact nI_le (by omega) (by omega)) (g3 0 (by rw [hg]; rfl))
    · have hr : ro (rest.length + 1) = nI (ys.getD 1 0) := by
        match ys, h, h3, hs with
        | [_], h, _, _ => exact absurd (by simp) h
        | [x, y], _, _, hs =>
          have := sk_at (a := []) (y := y) (rest := x :: rest) hs
          rw [List.length_cons] at this; exact this.1
        | [x, y, w], _, _, hs =>
          have := sk_at (a := [w]) (y := y) (rest := x :: rest) hs
          rw [List.length_cons] at this; exact this.1
      exact br_f (by rw [e1]; exact nI_ge (by omega) (by omega)) ⟨by rw [e1]; exact vp_in_nI (by omega) (by omega), g3 _ (by rw [e1, c1', hr])⟩
  refine ⟨hi, nm_r (e' := upd ka T (nI k)) (by rw [cl]) ⟨hi, nm_r (e' := upd ar T a) (by rw [cl]) ?_⟩⟩
  by_cases h : ys.length = 0
  · have hg : ys.getD 0 0 = 0 := by rw [List.eq_nil_of_length_eq_zero h]; rfl
    exact br_t (nI_le (by omega) (by omega)) (g2 0 (by rw [hg]; rfl))
  · have hr : ro rest.length = nI (ys.getD 0 0) := by
      match ys, h, h3, hs with
      | [x], _, _, hs => exact (sk_at (a := []) (y := x) (rest := rest) hs).1
      | [x, y], _, _, hs => exact (sk_at (a := [y]) (y := x) (rest := rest) hs).1
      | [x, y, w], _, _, hs => exact (sk_at (a := [w, y]) (y := x) (rest := rest) hs).1
    exact br_f (nI_ge (by omega) (by omega)) ⟨vp_in_nI (by omega) (by omega), g2 _ (by rw [c0, hr])⟩
end
end
section
section
variable {wt op' : Nat → Nat} {post : Int32 → SX → Prop} {k0 k1 k2 k3 k4 k5 k6 k7 k8 k9 k10 rm tc fc tw ht ft md nd en co vk vl st fe : Int32} {pr nu np nn tg ka ar c1 c2 c3 ro we op cT cN cE cK cV cX gN gE gC gK gV gH gT : Nat → Int32}
theorem xt_90 {k S : Nat} {arg fl x4 x5 : Int32} : ∀ {ys rest : List Nat}, sk_r wt op' ro we op (ys.reverse ++ rest) → rest.length + ys.length ≤ 32 → fc = nI (rest.length + ys.length) → (∃ n, wX_token_90 post (nI k) arg fl x4 x5 k0 k1 k2 k3 k4 k5 k6 k7 k8 k9 k10 rm tc fc tw ht ft md nd en co vk vl st fe pr nu np nn tg ka ar c1 c2 c3 ro we op cT cN cE cK cV cX gN gE gC gK gV gH gT n (nI S) (nI (rest.length + ys.length))) → ∃ n, wX_token_90 post (nI k) arg fl x4 x5 k0 k1 k2 k3 k4 k5 k6 k7 k8 k9 k10 rm tc fc tw ht ft md nd en co vk vl st fe pr nu np nn tg ka ar c1 c2 c3 ro we op cT cN cE cK cV cX gN gE gC gK gV gH gT n (nI (S + pw_sm wt ys)) (nI rest.length)
  | [], rest, _, hl, hf, H => H
  | y :: ys, rest, hs, hl, hf, H => by
    rw [sk_rc] at hs
    rw [List.length_cons] at hl hf
    have ha := sk_at hs
    have cl : (nI rest.length).toNatClampNeg = rest.length := nI_clamp (by omega)
    have nx := xt_90 (ys := ys) (rest := y :: rest) hs (by rw [List.length_cons]; omega) (by rw [hf, List.length_cons]; exact congrArg nI (by omega)) (by
      rw [List.length_cons, show rest.length + 1 + ys.length = rest.length + (ys.length + 1) by omega]; exact H)
    obtain ⟨n, nx⟩ := nx
    refine ⟨n + 1, br_f (by rw [hf]; exact nI_ge (by omega) (by omega)) ⟨vp_in_nI (by omega) (by omega), nm_r (e' := nI (S + pw_sm wt ys)) ?_ (nm_r (nI_1 rest.length) nx)⟩⟩
    rw [cl, ha.2.1, pw_sm, pk_sub (by omega)]
    exact congrArg nI (by omega)
/-- token, its kind and argument being good: too few operands -/
theorem xt_49m {k : Nat} {arg fl : Int32} {L : List Nat} (hk : k ≤ 17) (hL : L.length < pw_ops k) (hf : fc = nI L.length) (H : post 3 (k0, k1, k2, k3, k4, k5, k6, k7, k8, k9, k10, rm, tc, fc, tw, ht, ft, md, nd, en, co, vk, vl, st, fe, pr, nu, np, nn, tg, ka, ar, c1, c2, c3, ro, we, op, cT, cN, cE, cK, cV, cX, gN, gE, gC, gK, gV, gH, gT)) : wX_token_49 post (nI k) arg fl k0 k1 k2 k3 k4 k5 k6 k7 k8 k9 k10 rm tc fc tw ht ft md nd en co vk vl st fe pr nu np nn tg ka ar c1 c2 c3 ro we op cT cN cE cK cV cX gN gE gC gK gV gH gT := by
  have h3 : pw_ops k ≤ 3 := by unfold pw_ops; repeat' split
                               all_goals omega
  refine xt_operands hk ?_
  rw [hf]
  refine nm_e (br_f ?_ (by rw [← hf]; exact H))
  rw [Int32.not_le]
  exact pk_sneg (by omega) hL
theorem xt_49n {k T rmn : Nat} {arg fl : Int32} {ys rest : List Nat} (hk : k ≤ 17) (hl : ys.length = pw_ops k) (hb : ∀ y, y ∈ ys → op' y < 1000) (hs : sk_r wt op' ro we op (ys.reverse ++ rest)) (hn : rest.length + ys.length ≤ 24) (hT : T < 32) (hrm : rmn ≤ 24) (hw : pw_sm wt rest + pw_wt wt op' k ys < 100000) (hfl : fl = 0 ∨ fl = 1)
    (H4 : rmn < pw_sm wt rest + pw_wt wt op' k ys → post 4 (k0, k1, k2, k3, k4, k5, k6, k7, k8, k9, k10, nI rmn, nI T, nI (rest.length + ys.length), nI (pw_sm wt (ys.reverse ++ rest)), ht, ft, md, nd, en, co, vk, vl, st, fe, pr, nu, np, nn, tg, ka, ar, c1, c2, c3, ro, we, op, cT, cN, cE, cK, cV, cX, gN, gE, gC, gK, gV, gH, gT))
    (H0 : pw_sm wt rest + pw_wt wt op' k ys ≤ rmn → post 0 (k0, k1, k2, k3, k4, k5, k6, k7, k8, k9, k10, nI rmn, nI (T + 1), nI (rest.length + 1), nI (pw_sm wt rest + pw_wt wt op' k ys), ht, ft, md, nd, en, co, vk, vl, 0, 0, pr, nu, np, nn, tg, upd ka T (nI k), upd ar T (if fl = 1 ∨ k = 3 then arg else 0), upd c1 T (nI (ys.getD 0 0)), upd c2 T (nI (ys.getD 1 0)), upd c3 T (nI (ys.getD 2 0)), upd ro rest.length (nI T), upd we rest.length (nI (pw_wt wt op' k ys)), upd op rest.length (nI (pw_op op' k ys)), cT, cN, cE, cK, cV, cX, gN, gE, gC, gK, gV, gH, gT)) :
    wX_token_49 post (nI k) arg fl k0 k1 k2 k3 k4 k5 k6 k7 k8 k9 k10 (nI rmn) (nI T) (nI (rest.length + ys.length)) (nI (pw_sm wt (ys.reverse ++ rest))) ht ft md nd en co vk vl st fe pr nu np nn tg ka ar c1 c2 c3 ro we op cT cN cE cK cV cX gN gE gC gK gV gH gT := by
  have h3 : pw_ops k ≤ 3 := by unfold pw_ops; repeat' split
                               all_goals omega
  have cl : (nI rest.length).toNatClampNeg = rest.length := nI_clamp (by omega)
  have hi : vp_in (nI rest.length) 32 := vp_in_nI (by omega) (by omega)
  refine xt_operands hk (nm_r (e' := nI rest.length) ?_ (br_t (nI_pos' (by omega)) ?_))
  · rw [← hl, pk_sub (by omega), Nat.add_sub_cancel]
  refine xt_weightOf hk hl hb hs (by omega) rfl (nm_r (e' := nI (pw_sm wt rest + pw_wt wt op' k ys + pw_sm wt ys)) ?_ ?_)
  · rw [nI_add, pw_sm_app, pw_sm_rev]; exact congrArg nI (by omega)
  refine xt_90 hs (by omega) rfl ⟨1, br_t (Int32.le_refl _) ?_⟩
  by_cases hh : rmn < pw_sm wt rest + pw_wt wt op' k ys
  · exact br_t (nI_lt hh (by omega)) (H4 hh)
  · refine br_f (nI_nlt (by omega) (by omega)) (br_t (nI_lt (b := 32) hT (by decide)) (xt_opensOf hk hl hs (by omega) rfl ?_))
    have H0 := H0 (by omega)
    have fin : ∀ a, a = (if fl = 1 ∨ k = 3 then arg else 0) → wX_token_162 post (nI rest.length) (nI (pw_wt wt op' k ys)) (nI (pw_sm wt rest + pw_wt wt op' k ys)) (nI (pw_op op' k ys)) a (nI k) k0 k1 k2 k3 k4 k5 k6 k7 k8 k9 k10 (nI rmn) (nI T) (nI (rest.length + ys.length)) (nI (pw_sm wt (ys.reverse ++ rest))) ht ft md nd en co vk vl st fe pr nu np nn tg ka ar c1 c2 c3 ro we op cT cN cE cK cV cX gN gE gC gK gV gH gT := by
      intro a ha
      rw [← ha] at H0
      unfold wX_token_162
      refine xt_add hT (by omega) hs (by omega) ⟨hi, nm_r (e' := upd ro rest.length (nI T)) (by rw [cl, nI_pred]) ⟨hi, nm_r (e' := upd we rest.length (nI (pw_wt wt op' k ys))) (by rw [cl]) ⟨hi, nm_r (e' := upd op rest.length (nI (pw_op op' k ys))) (by rw [cl]) (nm_r (nI_1 rest.length) H0)⟩⟩⟩
    rcases hfl with h0 | h1
    · refine br_t h0 ?_
      by_cases hk3 : k = 3
      · exact br_t (by rw [hk3]; rfl) (fin arg (by rw [if_pos (Or.inr hk3)]))
      · refine br_f (pb_ne (b := 3) (by omega) (by decide) hk3) (fin 0 ?_)
        rw [if_neg]
        rintro (q | q)
        · rw [h0] at q; exact absurd q (by decide)
        · exact hk3 q
    · exact br_f (by rw [h1]; decide) (fin arg (by rw [if_pos (Or.inl h1)]))
end
end
section
/-! ===== the reference stacks the filters anew ===== -/
def pw_acc (wt : Nat → Nat) (u : Nat) : Nat → List Nat → Nat
  | _, [] => 0
  | j, y :: ys => wt y * (if j = 1 then u else 1) + pw_acc wt u (j + 1) ys
theorem pw_acc1 {wt : Nat → Nat} : ∀ {ys : List Nat} {j : Nat}, pw_acc wt 1 j ys = pw_sm wt ys
  | [], _ => rfl
  | y :: ys, j => by rw [pw_acc, pw_sm, pw_acc1]; split <;> omega
theorem pw_acc_wt {wt op : Nat → Nat} {k : Nat} {ys : List Nat} (hl : ys.length = pw_ops k) : (if k = 2 then 3 else 1) + pw_acc wt (if k = 14 then pw_mx (op (ys.getD 0 0)) else 1) 0 ys = pw_wt wt op k ys := by
  have hn := pw_len hl
  unfold pw_wt
  by_cases h2 : k = 2
  · rw [if_pos h2, if_pos h2, hn.1 (by omega)]; rfl
  · rw [if_neg h2, if_neg h2]
    by_cases h14 : k = 14
    · rw [if_pos h14, if_pos h14]
      obtain ⟨a, b, rfl⟩ := hn.2.2.1 (by omega) (by omega)
      show 1 + (wt a * 1 + (wt b * pw_mx (op a) + 0)) = 1 + wt a + wt b * pw_mx (op a)
      omega
    · rw [if_neg h14, if_neg h14, pw_acc1]
theorem pw_opp {op : Nat → Nat} {k : Nat} {ys : List Nat} (n14 : ¬ k = 14) : (if k = 6 then 1 else 0) + pw_sm op ys = pw_op op k ys := by
  unfold pw_op; rw [if_neg n14]
section
variable {p : PG} {wt op : Nat → Nat} {iw : Nat → Nat → Nat} {Yy Rr : Nat → List Nat} {post : Int32 → SY → Prop} {J9 : Int32 → Int32 → (Nat → Int32) → (Nat → Int32) → (Nat → Int32) → (Nat → Int32) → (Nat → Int32) → (Nat → Int32) → (Nat → Int32) → (Nat → Int32) → (Nat → Int32) → (Nat → Int32) → (Nat → Int32) → (Nat → Int32) → (Nat → Int32) → (Nat → Int32) → (Nat → Int32) → (Nat → Int32) → (Nat → Int32) → (Nat → Int32) → (Nat → Int32) → (Nat → Int32) → (Nat → Int32) → (Nat → Int32) → (Nat → Int32) → (Nat → Int32) → (Nat → Int32) → Prop} {li to mo gi ut uv hgh cu de br : Int32} {th ot nm on yk ya yh yo yr y1 y2 fi ev it iv ph fr mi aT ed bt bv oT oV pa : Nat → Int32}
theorem yt_operands {post : Int32 → Prop} {k : Nat} (hk : k ≤ 17) (H : post (nI (pw_ops k))) : wpY_operands post (li, to, mo, gi, ut, uv, hgh, cu, de, br, th, ot, nm, on, yk, ya, yh, yo, yr, y1, y2, fi, ev, it, iv, ph, fr, mi, aT, ed, bt, bv, oT, oV, pa) (nI k) := by
  unfold pw_ops at H
  by_cases h7 : 8 ≤ k
  · rw [if_neg (by omega)] at H
    refine br_t (nI_le (a := 8) h7 (by omega)) ?_
    by_cases h9 : 10 ≤ k
    · rw [if_neg (by omega)] at H
      refine br_t (nI_le (a := 10) h9 (by omega)) ?_
      by_cases h16 : 17 ≤ k
      · rw [if_neg (by omega)] at H
        exact br_t (nI_le (a := 17) h16 (by omega)) H
      · rw [if_pos (by omega)] at H
        exact br_f (nI_ge (b := 17) (by omega) (by decide)) H
    · rw [if_pos (by omega)] at H
      exact br_f (nI_ge (b := 10) (by omega) (by decide)) H
  · rw [if_pos (by omega)] at H
    exact br_f (nI_ge (b := 8) (by omega) (by decide)) H
theorem yt_138 {x1 x2 x3 x4 : Int32} {u h c : Nat} (hh : h + c ≤ 30) (hc : c ≤ 3) : ∀ {ys rest : List Nat} {j acc pa' : Nat}, sk_r wt op yr yh yo (ys.reverse ++ rest) → rest.length = h + j → j + ys.length = c → (∀ n, wY_total_138 post J9 x1 x2 x3 x4 (nI c) (nI u) li to mo gi ut uv (nI h) cu de br th ot nm on yk ya yh yo yr y1 y2 fi ev it iv ph fr mi aT ed bt bv oT oV pa (n + 1) (nI (acc + pw_acc wt u j ys)) (nI (pa' + pw_sm op ys)) (nI c)) → wY_total_138 post J9 x1 x2 x3 x4 (nI c) (nI u) li to mo gi ut uv (nI h) cu de br th ot nm on yk ya yh yo yr y1 y2 fi ev it iv ph fr mi aT ed bt bv oT oV pa (ys.length + 1) (nI acc) (nI pa') (nI j)
  | [], rest, j, acc, pa', _, hr, hj, H => by
    have e : j = c := hj
    subst e
    exact H 0
  | y :: ys, rest, j, acc, pa', hs, hr, hj, H => by
    rw [sk_rc] at hs
    rw [List.length_cons] at hj
    have ha := sk_at hs
    have e1 : nI h + nI j = nI (h + j) := nI_add _ _
    have cl : (nI (h + j)).toNatClampNeg = h + j := nI_clamp (by omega)
    have hi : vp_in (nI h + nI j) 32 := by rw [e1]; exact vp_in_nI (by omega) (by omega)
    rw [hr] at ha
    have fin : ∀ z : Nat, z = (if j = 1 then u else 1) → wY_total_171 post J9 (wY_total_138 post J9 x1 x2 x3 x4 (nI c) (nI u) li to mo gi ut uv (nI h) cu de br th ot nm on yk ya yh yo yr y1 y2 fi ev it iv ph fr mi aT ed bt bv oT oV pa (ys.length + 1)) x1 x2 x3 x4 (nI c) (nI pa') (nI u) (nI j) (nI z) (yh (nI h + nI j).toNatClampNeg) (nI acc) li to mo gi ut uv (nI h) cu de br th ot nm on yk ya yh yo yr y1 y2 fi ev it iv ph fr mi aT ed bt bv oT oV pa := by
      intro z hz
      refine nm_r (e' := nI (acc + wt y * z)) (by rw [e1, cl, ha.2.1, pk_mul, nI_add]) ⟨hi, nm_r (e' := nI (pa' + op y)) (by rw [e1, cl, ha.2.2, nI_add]) (nm_r (nI_1 j) ?_)⟩
      refine yt_138 hh hc (ys := ys) (rest := y :: rest) hs (by rw [List.length_cons]; omega) (by omega) (fun n => ?_)
      have := H n
      rw [pw_acc, pw_sm, ← hz, ← Nat.add_assoc, ← Nat.add_assoc] at this
      exact this
    refine br_f (nI_ge (by omega) (by omega)) ⟨hi, ?_⟩
    by_cases hj1 : j = 1
    · refine br_t (by rw [hj1]; rfl) (fin u (by rw [if_pos hj1]))
    · refine br_f (pb_ne (b := 1) (by omega) (by decide) hj1) (fin 1 (by rw [if_neg hj1]))
theorem yt_279 : ∀ {ys rest : List Nat} {acc : Nat}, sk_r wt op yr yh yo (ys.reverse ++ rest) → rest.length + ys.length ≤ 32 → hgh = nI (rest.length + ys.length) → post (nI (acc + pw_sm wt ys)) (li, to, mo, gi, ut, uv, hgh, cu, de, br, th, ot, nm, on, yk, ya, yh, yo, yr, y1, y2, fi, ev, it, iv, ph, fr, mi, aT, ed, bt, bv, oT, oV, pa) → wY_total_279 post li to mo gi ut uv hgh cu de br th ot nm on yk ya yh yo yr y1 y2 fi ev it iv ph fr mi aT ed bt bv oT oV pa (ys.length + 1) (nI acc) (nI rest.length)
  | [], rest, acc, _, hl, hf, H => br_t (by rw [hf]; exact Int32.le_refl _) H
  | y :: ys, rest, acc, hs, hl, hf, H => by
    rw [sk_rc] at hs
    rw [List.length_cons] at hl hf
    have ha := sk_at hs
    have cl : (nI rest.length).toNatClampNeg = rest.length := nI_clamp (by omega)
    refine br_f (by rw [hf]; exact nI_ge (by omega) (by omega)) ⟨vp_in_nI (by omega) (by omega), nm_r (e' := nI (acc + wt y)) (by rw [cl, ha.2.1, nI_add]) (nm_r (nI_1 rest.length) ?_)⟩
    refine yt_279 (rest := y :: rest) hs (by rw [List.length_cons]; omega) (by rw [hf, List.length_cons]; exact congrArg nI (by omega)) ?_
    rw [pw_sm, ← Nat.add_assoc] at H; exact H
/-- one token of the stacking -/
theorem yt_step {i k N : Nat} {x2 : Int32} {ys rest : List Nat} (hi : i < N) (hN : N ≤ 26) (hk : k ≤ 17) (hyk : yk i = nI k) (hl : ys.length = pw_ops k) (hb : ∀ y, y ∈ ys → op y < 1000) (hn : rest.length + ys.length ≤ i) (hs : sk_r wt op yr yh yo (ys.reverse ++ rest))
    {n : Nat} (H : ∀ a b, (8 ≤ k → a = nI (ys.getD 0 0)) → (10 ≤ k → b = nI (ys.getD 1 0)) → wY_total_9 post (nI N) x2 li to mo gi ut uv cu de br n (nI (i + 1)) (nI (rest.length + 1)) th ot nm on yk ya (upd yh rest.length (nI (pw_wt wt op k ys))) (upd yo rest.length (nI (pw_op op k ys))) (upd yr rest.length (nI i)) (upd y1 i a) (upd y2 i b) fi ev it iv ph fr mi aT ed bt bv oT oV pa) :
    wY_total_9 post (nI N) x2 li to mo gi ut uv cu de br (n + 1) (nI i) (nI (rest.length + ys.length)) th ot nm on yk ya yh yo yr y1 y2 fi ev it iv ph fr mi aT ed bt bv oT oV pa := by
  have h3 : pw_ops k ≤ 3 := by unfold pw_ops; repeat' split
                               all_goals omega
  have cl : (nI i).toNatClampNeg = i := nI_clamp (by omega)
  have hiv : vp_in (nI i) 32 := vp_in_nI (by omega) (by omega)
  have clr : (nI rest.length).toNatClampNeg = rest.length := nI_clamp (by omega)
  have hir : vp_in (nI rest.length) 32 := vp_in_nI (by omega) (by omega)
  have e1 : nI rest.length + 1 = nI (rest.length + 1) := nI_1 _
  have hir1 : vp_in (nI rest.length + 1) 32 := by rw [e1]; exact vp_in_nI (by omega) (by omega)
  have cl1 : (nI (rest.length + 1)).toNatClampNeg = rest.length + 1 := nI_clamp (by omega)
  have ha : 8 ≤ k → yr rest.length = nI (ys.getD 0 0) := by
    intro h8
    match ys, hl, hs with
    | [], hl, _ =>
      exfalso
      unfold pw_ops at hl
      rw [if_neg (by omega)] at hl
      split at hl
      · cases hl
      · split at hl <;> cases hl
    | [x], _, hs => exact (sk_at (a := []) (y := x) (rest := rest) hs).1
    | [x, y], _, hs => exact (sk_at (a := [y]) (y := x) (rest := rest) hs).1
    | [x, y, w], _, hs => exact (sk_at (a := [w, y]) (y := x) (rest := rest) hs).1
    | _ :: _ :: _ :: _ :: _, hl, _ => simp at hl; omega
  have hbq : 10 ≤ k → yr (rest.length + 1) = nI (ys.getD 1 0) := by
    intro h10
    by_cases h17 : k < 17
    · obtain ⟨x, y, rfl⟩ := (pw_len hl).2.2.1 h10 h17
      have := sk_at (a := []) (y := y) (rest := x :: rest) hs
      rw [List.length_cons] at this; exact this.1
    · obtain ⟨x, y, w, rfl⟩ := (pw_len hl).2.2.2 (by omega)
      have := sk_at (a := [w]) (y := y) (rest := x :: rest) hs
      rw [List.length_cons] at this; exact this.1
  have Hn := H (yr rest.length) (yr (rest.length + 1)) ha hbq
  have g239 : ∀ w o, w = nI (pw_wt wt op k ys) → o = nI (pw_op op k ys) → wY_total_239 post (wY_total_9 post (nI N) x2 li to mo gi ut uv cu de br n) (nI N) x2 (nI i) w o (nI rest.length) li to mo gi ut uv (nI rest.length) cu de br th ot nm on yk ya yh yo yr (upd y1 i (yr rest.length)) (upd y2 i (yr (rest.length + 1))) fi ev it iv ph fr mi aT ed bt bv oT oV pa := by
    intro w o hw ho
    refine ⟨hir, nm_r (e' := upd yo rest.length (nI (pw_op op k ys))) (by rw [clr, ho]) ⟨hir, nm_r (e' := upd yh rest.length (nI (pw_wt wt op k ys))) (by rw [clr, hw]) ⟨hir, nm_r (e' := upd yr rest.length (nI i)) (by rw [clr]) (nm_r e1 (nm_r (nI_1 i) Hn))⟩⟩⟩
  have g138 : ∀ u z6 z7, u = (if k = 14 then pw_mx (op (ys.getD 0 0)) else 1) → z6 = nI (if k = 2 then 3 else 1) → z7 = nI (if k = 6 then 1 else 0) → ∃ m, wY_total_138 post (wY_total_9 post (nI N) x2 li to mo gi ut uv cu de br n) (nI N) x2 (nI i) (nI k) (nI (pw_ops k)) (nI u) li to mo gi ut uv (nI rest.length) cu de br th ot nm on yk ya yh yo yr (upd y1 i (yr rest.length)) (upd y2 i (yr (rest.length + 1))) fi ev it iv ph fr mi aT ed bt bv oT oV pa m z6 z7 0 := by
    intro u z6 z7 hu h6 h7
    rw [h6, h7]
    refine ⟨ys.length + 1, yt_138 (c := pw_ops k) (by omega) h3 (j := 0) hs (by omega) (by omega) (fun m => br_t (Int32.le_refl _) ?_)⟩
    have hw := pw_acc_wt (wt := wt) (op := op) hl
    rw [← hu] at hw
    by_cases h14 : k = 14
    · refine br_t (by rw [h14]; rfl) ⟨hir, hir1, g239 _ _ (by rw [hw]) ?_⟩
      obtain ⟨x, y, rfl⟩ := (pw_len hl).2.2.1 (by omega) (by omega)
      have a1 := sk_at (a := [y]) (y := x) (rest := rest) hs
      have a2 := sk_at (a := []) (y := y) (rest := x :: rest) hs
      rw [List.length_cons] at a2
      rw [clr, e1, cl1, a1.2.2, a2.2.2, pk_mul]
      unfold pw_op; rw [if_pos h14]; rfl
    · refine br_f (pb_ne (b := 14) (by omega) (by decide) h14) (g239 _ _ (by rw [hw]) (by rw [pw_opp h14]))
  have g55 : ∀ z6 z7, z6 = nI (if k = 2 then 3 else 1) → z7 = nI (if k = 6 then 1 else 0) → wY_total_55 post (wY_total_9 post (nI N) x2 li to mo gi ut uv cu de br n) (nI N) x2 (nI i) (nI k) (nI (pw_ops k)) z6 z7 li to mo gi ut uv (nI (rest.length + ys.length)) cu de br th ot nm on yk ya yh yo yr y1 y2 fi ev it iv ph fr mi aT ed bt bv oT oV pa := by
    intro z6 z7 h6 h7
    refine nm_r (e' := nI rest.length) (by rw [← hl, pk_sub (by omega), Nat.add_sub_cancel]) ⟨hir, hiv, nm_r (e' := upd y1 i (yr rest.length)) (by rw [cl, clr]) ⟨hir1, hiv, nm_r (e' := upd y2 i (yr (rest.length + 1))) (by rw [cl, e1, cl1]) ?_⟩⟩
    by_cases h14 : k = 14
    · refine br_t (by rw [h14]; rfl) ⟨hir, ?_⟩
      obtain ⟨x, y, hxy⟩ := (pw_len hl).2.2.1 (by omega) (by omega)
      have a1 : yo rest.length = nI (op x) := by
        rw [hxy] at hs
        exact (sk_at (a := [y]) (y := x) (rest := rest) hs).2.2
      have hx := hb x (by rw [hxy]; simp)
      have hu0 : (if k = 14 then pw_mx (op (ys.getD 0 0)) else 1) = pw_mx (op x) := by rw [if_pos h14, hxy]; rfl
      by_cases ho : op x ≤ 1
      · refine br_t (by rw [clr, a1]; exact nI_le (b := 1) ho (by decide)) (g138 1 z6 z7 ?_ h6 h7)
        rw [hu0]; unfold pw_mx; rw [if_pos ho]
      · refine br_f (by rw [clr, a1]; exact nI_ge (a := 1) (by omega) (by omega)) ⟨hir, nm_r (e' := nI (op x)) (by rw [clr, a1]) (g138 (op x) z6 z7 ?_ h6 h7)⟩
        rw [hu0]; unfold pw_mx; rw [if_neg ho]
    · refine br_f (pb_ne (b := 14) (by omega) (by decide) h14) (g138 1 z6 z7 ?_ h6 h7)
      rw [if_neg h14]
  have g41 : ∀ z6, z6 = nI (if k = 2 then 3 else 1) → wY_total_41 post (wY_total_9 post (nI N) x2 li to mo gi ut uv cu de br n) (nI N) x2 (nI i) (nI k) (nI (pw_ops k)) z6 li to mo gi ut uv (nI (rest.length + ys.length)) cu de br th ot nm on yk ya yh yo yr y1 y2 fi ev it iv ph fr mi aT ed bt bv oT oV pa := by
    intro z6 h6
    by_cases hk6 : k = 6
    · exact br_t (by rw [hk6]; rfl) (g55 z6 1 h6 (by rw [if_pos hk6]; rfl))
    · exact br_f (pb_ne (b := 6) (by omega) (by decide) hk6) (g55 z6 0 h6 (by rw [if_neg hk6]; rfl))
  refine br_f (nI_ge hi (by omega)) ⟨hiv, nm_r (e' := nI k) (by rw [cl]; exact hyk) (yt_operands hk ?_)⟩
  by_cases hk2 : k = 2
  · exact br_t (by rw [hk2]; rfl) (g41 3 (by rw [if_pos hk2]; rfl))
  · exact br_f (pb_ne (b := 2) (by omega) (by decide) hk2) (g41 1 (by rw [if_neg hk2]; rfl))
end
end
section
section
variable {p : PG} {wt op : Nat → Nat} {iw : Nat → Nat → Nat} {Yy Rr : Nat → List Nat} {N : Nat} {post : Int32 → SY → Prop} {li to mo gi ut uv hgh cu de br : Int32} {th ot nm on yk ya yh yo yr y1 y2 fi ev it iv ph fr mi aT ed bt bv oT oV pa : Nat → Int32}
def yt_12 (p : PG) (n : Nat) (y1 y2 : Nat → Int32) : Prop := ∀ i, i < n → (8 ≤ pg_k p i → y1 i = nI (pg_1 p i)) ∧ (10 ≤ pg_k p i → y2 i = nI (pg_2 p i))
theorem yt_loop (h : PW p wt op iw Yy Rr N) (hN : N ≤ 25) (hb : ∀ i, i < N → op i < 1000) (hk : ∀ i, i < N → yk i = nI (pg_k p i))
    (H : ∀ hgh yh yo yr y1 y2, hgh = nI (Rr N).length → sk_r wt op yr yh yo (Rr N) → yt_12 p N y1 y2 → post (nI (pw_sm wt (Rr N))) (li, to, mo, gi, ut, uv, hgh, cu, de, br, th, ot, nm, on, yk, ya, yh, yo, yr, y1, y2, fi, ev, it, iv, ph, fr, mi, aT, ed, bt, bv, oT, oV, pa)) : ∀ {m i : Nat} {yh yo yr y1 y2 : Nat → Int32}, i + m = N → sk_r wt op yr yh yo (Rr i) → yt_12 p i y1 y2 → wY_total_9 post (nI N) 0 li to mo gi ut uv cu de br (m + 1) (nI i) (nI (Rr i).length) th ot nm on yk ya yh yo yr y1 y2 fi ev it iv ph fr mi aT ed bt bv oT oV pa
  | 0, i, yh, yo, yr, y1, y2, hi, hs, h12 => by
    have e : i = N := hi
    subst e
    have hl := (pw_sum h (Nat.le_refl i)).2
    have q := yt_279 (post := post) (wt := wt) (op := op) (yr := yr) (yh := yh) (yo := yo) (ys := (Rr i).reverse) (rest := []) (acc := 0) (hgh := nI (Rr i).length) (li := li) (to := to) (mo := mo) (gi := gi) (ut := ut) (uv := uv) (cu := cu) (de := de) (br := br) (th := th) (ot := ot) (nm := nm) (on := on) (yk := yk) (ya := ya) (y1 := y1) (y2 := y2) (fi := fi) (ev := ev) (it := it) (iv := iv) (ph := ph) (fr := fr) (mi := mi) (aT := aT) (ed := ed) (bt := bt) (bv := bv) (oT := oT) (oV := oV) (pa := pa) (by rw [List.reverse_reverse, List.append_nil]; exact hs) (by rw [List.length_nil, List.length_reverse]; omega) (by rw [List.length_nil, List.length_reverse, Nat.zero_add]) (by
      rw [Nat.zero_add, pw_sm_rev]; exact H _ yh yo yr y1 y2 rfl hs h12)
    exact br_t (Int32.le_refl _) ⟨_, q⟩
  | m + 1, i, yh, yo, yr, y1, y2, hi, hs, h12 => by
    have hiN : i < N := by omega
    obtain ⟨k17, hl, ⟨rest, hr, hr1⟩, e1, e2, e3, hw, ho, _, _⟩ := h.2 i hiN
    have hlen := (pw_sum h (Nat.le_of_lt hiN)).2
    rw [hr, List.length_append, List.length_reverse, Nat.add_comm] at hlen
    have hrl : (Rr i).length = rest.length + (Yy i).length := by rw [hr, List.length_append, List.length_reverse, Nat.add_comm]
    rw [hr] at hs
    rw [hrl]
    have hlt := pw_lt h (Nat.le_of_lt hiN)
    refine yt_step hiN (by omega) k17 (hk i hiN) hl (fun y hy => hb y (by have := pw_Y h hiN y hy; omega)) hlen hs (fun a b h8 h10 => ?_)
    have q := yt_loop h hN hb hk H (m := m) (i := i + 1) (yh := upd yh rest.length (nI (pw_wt wt op (pg_k p i) (Yy i)))) (yo := upd yo rest.length (nI (pw_op op (pg_k p i) (Yy i)))) (yr := upd yr rest.length (nI i)) (y1 := upd y1 i a) (y2 := upd y2 i b) (by omega) (by
      rw [hr1]
      refine ⟨pk_us, ?_, ?_, sk_c (fun _ _ => ⟨rfl, rfl⟩) (fun j hj => ⟨pb_u hj, pb_u hj, pb_u hj⟩) (sk_tl hs)⟩
      · rw [hw]; exact pk_us
      · rw [ho]; exact pk_us) (fun j hj => by
      by_cases ej : j = i
      · subst ej
        exact ⟨fun z => by rw [e1]; exact pk_us.trans (h8 z), fun z => by rw [e2]; exact pk_us.trans (h10 z)⟩
      · have := h12 j (by omega)
        exact ⟨fun z => (pk_un ej).trans (this.1 z), fun z => (pk_un ej).trans (this.2 z)⟩)
    rw [hr1, List.length_cons] at q
    exact q
theorem yt_total (h : PW p wt op iw Yy Rr N) (hN : N ≤ 25) (hb : ∀ i, i < N → op i < 1000) (hk : ∀ i, i < N → yk i = nI (pg_k p i))
    (H : ∀ hgh yh yo yr y1 y2, hgh = nI (Rr N).length → sk_r wt op yr yh yo (Rr N) → yt_12 p N y1 y2 → post (nI (pw_sm wt (Rr N))) (li, to, mo, gi, ut, uv, hgh, cu, de, br, th, ot, nm, on, yk, ya, yh, yo, yr, y1, y2, fi, ev, it, iv, ph, fr, mi, aT, ed, bt, bv, oT, oV, pa)) : wpY_total post (li, to, mo, gi, ut, uv, hgh, cu, de, br, th, ot, nm, on, yk, ya, yh, yo, yr, y1, y2, fi, ev, it, iv, ph, fr, mi, aT, ed, bt, bv, oT, oV, pa) (nI N) := by
  have q := yt_loop (cu := cu) (de := de) (br := br) (y1 := y1) (y2 := y2) (yh := yh) (yo := yo) (yr := yr) h hN hb hk H (m := N) (i := 0) (by omega) (by rw [h.1]; trivial) (fun j hj => by omega)
  rw [h.1] at q
  exact ⟨N + 1, q⟩
theorem yt_filters (h : PW p wt op iw Yy Rr N) (hN : N ≤ 25) (hb : ∀ i, i < N → op i < 1000) (hk : ∀ i, i < N → yk i = nI (pg_k p i)) (hto : to = nI N)
    (H : ∀ hgh yh yo yr y1 y2, hgh = nI (Rr N).length → sk_r wt op yr yh yo (Rr N) → yt_12 p N y1 y2 → post (nI (Rr N).length) (li, to, mo, gi, ut, uv, hgh, cu, de, br, th, ot, nm, on, yk, ya, yh, yo, yr, y1, y2, fi, ev, it, iv, ph, fr, mi, aT, ed, bt, bv, oT, oV, pa)) : wpY_filters post (li, to, mo, gi, ut, uv, hgh, cu, de, br, th, ot, nm, on, yk, ya, yh, yo, yr, y1, y2, fi, ev, it, iv, ph, fr, mi, aT, ed, bt, bv, oT, oV, pa) := by
  subst hto
  refine yt_total (hgh := hgh) h hN hb hk (fun hgh yh yo yr y1 y2 e hs h12 => ?_)
  have := H hgh yh yo yr y1 y2 e hs h12
  rw [← e] at this
  exact this
theorem yt_weight (h : PW p wt op iw Yy Rr N) (hN : N ≤ 25) (hb : ∀ i, i < N → op i < 1000) (hk : ∀ i, i < N → yk i = nI (pg_k p i)) (hto : to = nI N)
    (H : ∀ hgh yh yo yr y1 y2, hgh = nI (Rr N).length → sk_r wt op yr yh yo (Rr N) → yt_12 p N y1 y2 → post (nI (pw_sm wt (Rr N))) (li, to, mo, gi, ut, uv, hgh, cu, de, br, th, ot, nm, on, yk, ya, yh, yo, yr, y1, y2, fi, ev, it, iv, ph, fr, mi, aT, ed, bt, bv, oT, oV, pa)) : wpY_weight post (li, to, mo, gi, ut, uv, hgh, cu, de, br, th, ot, nm, on, yk, ya, yh, yo, yr, y1, y2, fi, ev, it, iv, ph, fr, mi, aT, ed, bt, bv, oT, oV, pa) := by
  subst hto
  exact yt_total (hgh := hgh) h hN hb hk (fun hgh yh yo yr y1 y2 e hs h12 => H hgh yh yo yr y1 y2 e hs h12)
end
end
section
/-! ===== the document ===== -/
def dc_ra : Nat → (Nat → Int32) → Nat → (Nat → Int32)
  | 0, P, _ => P
  | n + 1, P, q => dc_ra n (upd P q 1) ((q - 1) / 3)
def dc_be (q r : Nat) : Nat := q * (if r = 0 then 1 else if r ≤ 3 then 3 else if r ≤ 12 then 9 else 27) + r
abbrev DD : Type := (Nat → Int32) × (Nat → Int32)
def dc_rm (q : Nat) : Nat → Nat → DD → DD
  | 0, _, D => D
  | n + 1, r, D => dc_rm q n (r + 1) (if dc_be q r < 40 then (upd D.1 (dc_be q r) 0, upd D.2 (dc_be q r) 0) else D)
def dc_pl (D0 : DD) (x q : Nat) : Nat → Nat → DD → DD
  | 0, _, D => D
  | n + 1, r, D => dc_pl D0 x q n (r + 1) (if dc_be x r < 40 ∧ dc_be q r < 40 ∧ D0.1 (dc_be x r) ≠ 0 then (upd D.1 (dc_be q r) 1, upd D.2 (dc_be q r) (D0.2 (dc_be x r))) else D)
def dc_rmv (q : Nat) (D : DD) : DD := dc_rm q 40 0 D
/-- the first output takes the place of the tree at q -/
def dc_rp (q : Nat) (D : DD) : List PV → DD
  | [] => dc_rmv q D
  | o :: _ => if o.1 = 0 then (dc_ra 4 (dc_rmv q D).1 q, upd (dc_rmv q D).2 q o.2) else if D.1 o.2.toNatClampNeg = 0 then dc_rmv q D else dc_pl D o.2.toNatClampNeg q 40 0 (dc_rmv q D)
def dc_bl (P : Nat → Int32) : Prop := ∀ j, P j = 0 ∨ P j = 1
theorem dc_bl_u {P : Nat → Int32} {k : Nat} {x : Int32} (h : dc_bl P) (hx : x = 0 ∨ x = 1) : dc_bl (upd P k x) := fun j => by
  by_cases e : j = k
  · rw [e, pk_us]; exact hx
  · rw [pk_un e]; exact h j
theorem dc_bl_ra : ∀ {n : Nat} {P : Nat → Int32} {q : Nat}, dc_bl P → dc_bl (dc_ra n P q)
  | 0, _, _, h => h
  | n + 1, P, q, h => by rw [dc_ra]; exact dc_bl_ra (dc_bl_u h (Or.inr rfl))
theorem dc_bl_rm {q : Nat} : ∀ {n r : Nat} {D : DD}, dc_bl D.1 → dc_bl (dc_rm q n r D).1
  | 0, _, _, h => h
  | n + 1, r, D, h => by
    rw [dc_rm]
    refine dc_bl_rm ?_
    split
    · exact dc_bl_u h (Or.inl rfl)
    · exact h
theorem dc_bl_pl {D0 : DD} {x q : Nat} : ∀ {n r : Nat} {D : DD}, dc_bl D.1 → dc_bl (dc_pl D0 x q n r D).1
  | 0, _, _, h => h
  | n + 1, r, D, h => by
    rw [dc_pl]
    refine dc_bl_pl ?_
    split
    · exact dc_bl_u h (Or.inr rfl)
    · exact h
theorem dc_bl_rp {q : Nat} {D : DD} (h : dc_bl D.1) : ∀ {l : List PV}, dc_bl (dc_rp q D l).1
  | [] => dc_bl_rm h
  | o :: _ => by
    rw [dc_rp]
    split
    · exact dc_bl_ra (dc_bl_rm h)
    · split
      · exact dc_bl_rm h
      · exact dc_bl_pl (dc_bl_rm h)
theorem dc_par {q : Nat} (hq : q < 40) : (nI q - 1) / 3 = nI ((q - 1) / 3) := by
  by_cases h : q = 0
  · subst h; decide
  · rw [pb_m1 (by omega)]
    exact pk_div (d := 3) (by omega) (by decide) (by decide)
theorem dc_be_b {q r : Nat} (hq : q < 40) (hr : r < 40) : dc_be q r < 2000 := by
  unfold dc_be
  have : q * (if r = 0 then 1 else if r ≤ 3 then 3 else if r ≤ 12 then 9 else 27) ≤ q * 27 := Nat.mul_le_mul_left q (by repeat' split
                                                                                                                        all_goals omega)
  omega
section
variable {k0 k1 k2 k3 k4 k5 k6 k7 k8 k9 k10 rm tc fc tw ht ft md nd en co vk vl st fe : Int32} {pr nu np nn tg ka ar c1 c2 c3 ro we op cT cN cE cK cV cX gN gE gC gK gV gH gT : Nat → Int32}
theorem xd_raise {post : SX → Prop} : ∀ {n i q : Nat} {pr : Nat → Int32}, i + n = 4 → q < 40 → post (k0, k1, k2, k3, k4, k5, k6, k7, k8, k9, k10, rm, tc, fc, tw, ht, ft, md, nd, en, co, vk, vl, st, fe, dc_ra n pr q, nu, np, nn, tg, ka, ar, c1, c2, c3, ro, we, op, cT, cN, cE, cK, cV, cX, gN, gE, gC, gK, gV, gH, gT) → wX_raise_4 post k0 k1 k2 k3 k4 k5 k6 k7 k8 k9 k10 rm tc fc tw ht ft md nd en co vk vl st fe (n + 1) (nI q) (nI i) pr nu np nn tg ka ar c1 c2 c3 ro we op cT cN cE cK cV cX gN gE gC gK gV gH gT
  | 0, i, q, pr, hi, hq, H => by
    have e : i = 4 := hi
    subst e
    exact br_t (by decide) H
  | n + 1, i, q, pr, hi, hq, H => by
    have cl : (nI q).toNatClampNeg = q := nI_clamp (by omega)
    refine br_f (nI_ge (b := 4) (by omega) (by decide)) ⟨vp_in_nI hq (by omega), nm_r (e' := upd pr q 1) (by rw [cl, pb_b1]) ⟨by decide, nm_r (dc_par hq) (nm_r (nI_1 i) ?_)⟩⟩
    exact xd_raise (by omega) (by omega) H
theorem xd_below {post : Int32 → Prop} {q r : Nat} (hq : q < 40) (hr : r < 40) (H1 : dc_be q r < 40 → post (nI (dc_be q r))) (H2 : ¬ dc_be q r < 40 → post (-1)) : wpX_below post (k0, k1, k2, k3, k4, k5, k6, k7, k8, k9, k10, rm, tc, fc, tw, ht, ft, md, nd, en, co, vk, vl, st, fe, pr, nu, np, nn, tg, ka, ar, c1, c2, c3, ro, we, op, cT, cN, cE, cK, cV, cX, gN, gE, gC, gK, gV, gH, gT) (nI q) (nI r) := by
  have hb := dc_be_b hq hr
  have key : ∀ (c : Nat), dc_be q r = q * c + r → wX_below_30 post (nI q) (nI r) (nI c) k0 k1 k2 k3 k4 k5 k6 k7 k8 k9 k10 rm tc fc tw ht ft md nd en co vk vl st fe pr nu np nn tg ka ar c1 c2 c3 ro we op cT cN cE cK cV cX gN gE gC gK gV gH gT := by
    intro c hc
    refine nm_r (e' := nI (dc_be q r)) (by rw [pk_mul, nI_add, hc]) ?_
    by_cases h : dc_be q r < 40
    · exact br_f (nI_nlt (a := 39) (by omega) (by decide)) (H1 h)
    · exact br_t (nI_lt (a := 39) (by omega) (by omega)) (H2 h)
  by_cases h0 : r = 0
  · exact br_t (by rw [h0]; rfl) (key 1 (by unfold dc_be; rw [if_pos h0]))
  · refine br_f (nI_ne0 (by omega) (by omega)) ?_
    by_cases h3 : r ≤ 3
    · exact br_f (nI_nlt (a := 3) h3 (by decide)) (key 3 (by unfold dc_be; rw [if_neg h0, if_pos h3]))
    · refine br_t (nI_lt (a := 3) (by omega) (by omega)) ?_
      by_cases h12 : r ≤ 12
      · exact br_f (nI_nlt (a := 12) h12 (by decide)) (key 9 (by unfold dc_be; rw [if_neg h0, if_neg h3, if_pos h12]))
      · exact br_t (nI_lt (a := 12) (by omega) (by omega)) (key 27 (by unfold dc_be; rw [if_neg h0, if_neg h3, if_neg h12]))
theorem xd_remove {post : SX → Prop} {q : Nat} (hq : q < 40) : ∀ {n r : Nat} {pr nu : Nat → Int32}, r + n = 40 → (∀ D, D = dc_rm q n r (pr, nu) → post (k0, k1, k2, k3, k4, k5, k6, k7, k8, k9, k10, rm, tc, fc, tw, ht, ft, md, nd, en, co, vk, vl, st, fe, D.1, D.2, np, nn, tg, ka, ar, c1, c2, c3, ro, we, op, cT, cN, cE, cK, cV, cX, gN, gE, gC, gK, gV, gH, gT)) → wX_remove_2 post (nI q) k0 k1 k2 k3 k4 k5 k6 k7 k8 k9 k10 rm tc fc tw ht ft md nd en co vk vl st fe (n + 1) (nI r) pr nu np nn tg ka ar c1 c2 c3 ro we op cT cN cE cK cV cX gN gE gC gK gV gH gT
  | 0, r, pr, nu, hr, H => by
    have e : r = 40 := hr
    subst e
    exact br_t (by decide) (H (pr, nu) rfl)
  | n + 1, r, pr, nu, hr, H => by
    refine br_f (nI_ge (b := 40) (by omega) (by decide)) (xd_below hq (by omega) (fun h => ?_) (fun h => ?_))
    · have cl : (nI (dc_be q r)).toNatClampNeg = dc_be q r := nI_clamp (by omega)
      have hi : vp_in (nI (dc_be q r)) 40 := vp_in_nI h (by omega)
      refine br_f (nI_pos (by omega)) ⟨hi, nm_r (e' := upd pr (dc_be q r) 0) (by rw [cl, pb_b0]) ⟨hi, nm_r (e' := upd nu (dc_be q r) 0) (by rw [cl]) (nm_r (nI_1 r) (xd_remove hq (by omega) (fun D hD => H D ?_)))⟩⟩
      rw [dc_rm, if_pos h]; exact hD
    · refine br_t (by decide) (nm_r (nI_1 r) (xd_remove hq (by omega) (fun D hD => H D ?_)))
      rw [dc_rm, if_neg h]; exact hD
theorem xd_rmv {post : SX → Prop} {q : Nat} (hq : q < 40) (H : ∀ D, D = dc_rmv q (pr, nu) → post (k0, k1, k2, k3, k4, k5, k6, k7, k8, k9, k10, rm, tc, fc, tw, ht, ft, md, nd, en, co, vk, vl, st, fe, D.1, D.2, np, nn, tg, ka, ar, c1, c2, c3, ro, we, op, cT, cN, cE, cK, cV, cX, gN, gE, gC, gK, gV, gH, gT)) : wpX_remove post (k0, k1, k2, k3, k4, k5, k6, k7, k8, k9, k10, rm, tc, fc, tw, ht, ft, md, nd, en, co, vk, vl, st, fe, pr, nu, np, nn, tg, ka, ar, c1, c2, c3, ro, we, op, cT, cN, cE, cK, cV, cX, gN, gE, gC, gK, gV, gH, gT) (nI q) := ⟨41, xd_remove hq rfl H⟩
theorem xd_note {post : SX → Prop} {x : Nat} (hx : x < 40) : ∀ {n r : Nat} {np nn : Nat → Int32}, r + n = 40 → (∀ np' nn', (∀ j, j < r → np' j = np j ∧ nn' j = nn j) → (∀ j, r ≤ j → j < 40 → (np' j = 0 ↔ ¬ (dc_be x j < 40 ∧ pr (dc_be x j) ≠ 0)) ∧ (dc_be x j < 40 → nn' j = nu (dc_be x j))) → post (k0, k1, k2, k3, k4, k5, k6, k7, k8, k9, k10, rm, tc, fc, tw, ht, ft, md, nd, en, co, vk, vl, st, fe, pr, nu, np', nn', tg, ka, ar, c1, c2, c3, ro, we, op, cT, cN, cE, cK, cV, cX, gN, gE, gC, gK, gV, gH, gT)) → wX_note_2 post (nI x) k0 k1 k2 k3 k4 k5 k6 k7 k8 k9 k10 rm tc fc tw ht ft md nd en co vk vl st fe (n + 1) (nI r) pr nu np nn tg ka ar c1 c2 c3 ro we op cT cN cE cK cV cX gN gE gC gK gV gH gT
  | 0, r, np, nn, hr, H => by
    have e : r = 40 := hr
    subst e
    exact br_t (by decide) (H np nn (fun _ _ => ⟨rfl, rfl⟩) (fun j h1 h2 => by omega))
  | n + 1, r, np, nn, hr, H => by
    have cl : (nI r).toNatClampNeg = r := nI_clamp (by omega)
    have hir : vp_in (nI r) 40 := vp_in_nI (by omega) (by omega)
    have nx : ∀ b y, (b = 0 ↔ ¬ (dc_be x r < 40 ∧ pr (dc_be x r) ≠ 0)) → (dc_be x r < 40 → y = nu (dc_be x r)) → wX_note_2 post (nI x) k0 k1 k2 k3 k4 k5 k6 k7 k8 k9 k10 rm tc fc tw ht ft md nd en co vk vl st fe (n + 1) (nI (r + 1)) pr nu (upd np r b) (upd nn r y) tg ka ar c1 c2 c3 ro we op cT cN cE cK cV cX gN gE gC gK gV gH gT := by
      intro b y hb hy
      refine xd_note hx (by omega) (fun np' nn' h1 h2 => H np' nn' (fun j hj => ⟨(h1 j (by omega)).1.trans (pb_u hj), (h1 j (by omega)).2.trans (pb_u hj)⟩) (fun j hj hj' => ?_))
      by_cases e : j = r
      · subst e
        rw [(h1 j (by omega)).1, (h1 j (by omega)).2, pk_us, pk_us]
        exact ⟨hb, hy⟩
      · exact h2 j (by omega) hj'
    refine br_f (nI_ge (b := 40) (by omega) (by decide)) (xd_below hx (by omega) (fun h => ?_) (fun h => ?_))
    · have cl2 : (nI (dc_be x r)).toNatClampNeg = dc_be x r := nI_clamp (by omega)
      have hi : vp_in (nI (dc_be x r)) 40 := vp_in_nI h (by omega)
      refine br_f (nI_pos (by omega)) ⟨hi, br_c (fun hz => ?_) (fun hz => ?_)⟩
      · rw [cl2] at hz
        refine ⟨hir, nm_r (e' := upd np r 0) (by rw [cl, pb_b0]) (br_f (nI_pos (by omega)) ⟨hi, hir, nm_r (e' := upd nn r (nu (dc_be x r))) (by rw [cl, cl2]) (nm_r (nI_1 r) (nx 0 _ ⟨fun _ q => q.2 hz, fun _ => rfl⟩ (fun _ => rfl)))⟩)⟩
      · rw [cl2] at hz
        refine ⟨hir, nm_r (e' := upd np r 1) (by rw [cl, pb_b1]) (br_f (nI_pos (by omega)) ⟨hi, hir, nm_r (e' := upd nn r (nu (dc_be x r))) (by rw [cl, cl2]) (nm_r (nI_1 r) (nx 1 _ ⟨fun q => absurd q (by decide), fun q => absurd ⟨h, hz⟩ q⟩ (fun _ => rfl)))⟩)⟩
    · refine br_t (by decide) ⟨hir, nm_r (e' := upd np r 0) (by rw [cl, pb_b0]) (br_t (by decide) ⟨hir, nm_r (e' := upd nn r 0) (by rw [cl]) (nm_r (nI_1 r) (nx 0 0 ⟨fun _ q => h q.1, fun _ => rfl⟩ (fun q => absurd q h)))⟩)⟩
theorem xd_plant {post : SX → Prop} {q x : Nat} {D0 : DD} (hq : q < 40) (hN : ∀ j, j < 40 → (np j = 0 ↔ ¬ (dc_be x j < 40 ∧ D0.1 (dc_be x j) ≠ 0)) ∧ (dc_be x j < 40 → nn j = D0.2 (dc_be x j))) : ∀ {n r : Nat} {pr nu : Nat → Int32}, r + n = 40 → (∀ D, D = dc_pl D0 x q n r (pr, nu) → post (k0, k1, k2, k3, k4, k5, k6, k7, k8, k9, k10, rm, tc, fc, tw, ht, ft, md, nd, en, co, vk, vl, st, fe, D.1, D.2, np, nn, tg, ka, ar, c1, c2, c3, ro, we, op, cT, cN, cE, cK, cV, cX, gN, gE, gC, gK, gV, gH, gT)) → wX_plant_2 post (nI q) k0 k1 k2 k3 k4 k5 k6 k7 k8 k9 k10 rm tc fc tw ht ft md nd en co vk vl st fe (n + 1) (nI r) pr nu np nn tg ka ar c1 c2 c3 ro we op cT cN cE cK cV cX gN gE gC gK gV gH gT
  | 0, r, pr, nu, hr, H => by
    have e : r = 40 := hr
    subst e
    exact br_t (by decide) (H (pr, nu) rfl)
  | n + 1, r, pr, nu, hr, H => by
    have cl : (nI r).toNatClampNeg = r := nI_clamp (by omega)
    have hir : vp_in (nI r) 40 := vp_in_nI (by omega) (by omega)
    have hNr := hN r (by omega)
    refine br_f (nI_ge (b := 40) (by omega) (by decide)) (xd_below hq (by omega) (fun h => ?_) (fun h => ?_))
    · have cl2 : (nI (dc_be q r)).toNatClampNeg = dc_be q r := nI_clamp (by omega)
      have hi : vp_in (nI (dc_be q r)) 40 := vp_in_nI h (by omega)
      refine br_f (nI_pos (by omega)) ⟨hir, br_c (fun hz => nm_r (nI_1 r) (xd_plant hq hN (by omega) (fun D hD => H D ?_))) (fun hz => ?_)⟩
      · rw [cl] at hz
        rw [dc_pl, if_neg (fun z => hNr.1.mp hz ⟨z.1, z.2.2⟩)]; exact hD
      · rw [cl] at hz
        have hc : dc_be x r < 40 ∧ D0.1 (dc_be x r) ≠ 0 := Classical.not_not.mp (fun z => hz (hNr.1.mpr z))
        refine ⟨hi, nm_r (e' := upd pr (dc_be q r) 1) (by rw [cl2, pb_b1]) ⟨hir, hi, nm_r (e' := upd nu (dc_be q r) (D0.2 (dc_be x r))) (by rw [cl2, cl, hNr.2 hc.1]) (nm_r (nI_1 r) (xd_plant hq hN (by omega) (fun D hD => H D ?_)))⟩⟩
        rw [dc_pl, if_pos ⟨hc.1, h, hc.2⟩]; exact hD
    · refine br_t (by decide) (nm_r (nI_1 r) (xd_plant hq hN (by omega) (fun D hD => H D ?_)))
      rw [dc_pl, if_neg (fun z => h z.2.1)]; exact hD
/-- the component's replace -/
theorem xd_replace {post : SX → Prop} {q : Nat} {o : PV} {l : List PV} (hq : q < 40) (ho : aw_v o) (h1 : vk = o.1) (h2 : vl = o.2) (H : ∀ D np nn, D = dc_rp q (pr, nu) (o :: l) → post (k0, k1, k2, k3, k4, k5, k6, k7, k8, k9, k10, rm, tc, fc, tw, ht, ft, md, nd, en, co, vk, vl, st, fe, D.1, D.2, np, nn, tg, ka, ar, c1, c2, c3, ro, we, op, cT, cN, cE, cK, cV, cX, gN, gE, gC, gK, gV, gH, gT)) : wpX_replace post (k0, k1, k2, k3, k4, k5, k6, k7, k8, k9, k10, rm, tc, fc, tw, ht, ft, md, nd, en, co, vk, vl, st, fe, pr, nu, np, nn, tg, ka, ar, c1, c2, c3, ro, we, op, cT, cN, cE, cK, cV, cX, gN, gE, gC, gK, gV, gH, gT) (nI q) := by
  have cl : (nI q).toNatClampNeg = q := nI_clamp (by omega)
  rw [dc_rp] at H
  by_cases h0 : o.1 = 0
  · rw [if_pos h0] at H
    refine br_t (h1.trans h0) (xd_rmv hq (fun D hD => ⟨5, xd_raise (n := 4) rfl hq ⟨vp_in_nI hq (by omega), nm_r (e' := upd D.2 q o.2) (by rw [cl, h2]) ?_⟩⟩))
    have := H (dc_ra 4 (dc_rmv q (pr, nu)).1 q, upd (dc_rmv q (pr, nu)).2 q o.2) np nn rfl
    rw [← hD] at this
    exact this
  · rw [if_neg h0] at H
    obtain ⟨j, hj, ej⟩ := ho.2 h0
    have clj : (nI j).toNatClampNeg = j := nI_clamp (by omega)
    rw [ej, clj] at H
    rw [h1, h2, ej]
    refine br_f h0 ⟨vp_in_nI hj (by omega), ?_⟩
    by_cases hp : pr j = 0
    · rw [if_pos hp] at H
      rw [h1, h2, ej] at H
      exact br_t (by rw [clj]; exact hp) (xd_rmv hq (fun D hD => H D np nn hD))
    · rw [if_neg hp] at H
      rw [h1, h2, ej] at H
      refine br_f (by rw [clj]; exact hp) ⟨41, xd_note hj rfl (fun np' nn' _ hn => xd_rmv hq (fun D hD => ⟨41, xd_plant (x := j) (D0 := (pr, nu)) hq (fun j' hj' => hn j' (Nat.zero_le _) hj') rfl (fun D' hD' => H D' np' nn' ?_)⟩))⟩
      rw [hD', ← hD]
end
end
section
section
variable {li to mo gi ut uv hgh cu de br : Int32} {th ot nm on yk ya yh yo yr y1 y2 fi ev it iv ph fr mi aT ed bt bv oT oV pa : Nat → Int32}
theorem yd_raise {post : SY → Prop} {q0 : Nat} {x : Int32} (hq0 : q0 < 40) : ∀ {n i q : Nat} {th : Nat → Int32}, i + n = 4 → q < 40 → post (li, to, mo, gi, ut, uv, hgh, cu, de, br, dc_ra n th q, ot, upd nm q0 x, on, yk, ya, yh, yo, yr, y1, y2, fi, ev, it, iv, ph, fr, mi, aT, ed, bt, bv, oT, oV, pa) → wY_raise_5 post (nI q0) x li to mo gi ut uv hgh cu de br (n + 1) (nI i) (nI q) th ot nm on yk ya yh yo yr y1 y2 fi ev it iv ph fr mi aT ed bt bv oT oV pa
  | 0, i, q, th, hi, hq, H => by
    have e : i = 4 := hi
    subst e
    have cl : (nI q0).toNatClampNeg = q0 := nI_clamp (by omega)
    exact br_t (by decide) ⟨vp_in_nI hq0 (by omega), nm_r (e' := upd nm q0 x) (by rw [cl]) H⟩
  | n + 1, i, q, th, hi, hq, H => by
    have cl : (nI q).toNatClampNeg = q := nI_clamp (by omega)
    refine br_f (nI_ge (b := 4) (by omega) (by decide)) ⟨vp_in_nI hq (by omega), nm_r (e' := upd th q 1) (by rw [cl, pb_b1]) (nm_r (nI_1 i) ⟨by decide, nm_r (dc_par hq) ?_⟩)⟩
    exact yd_raise hq0 (by omega) (by omega) H
theorem yd_under {post : Int32 → Prop} {q r : Nat} (hr : r < 40) (H : post (nI (dc_be q r))) : wpY_under post (li, to, mo, gi, ut, uv, hgh, cu, de, br, th, ot, nm, on, yk, ya, yh, yo, yr, y1, y2, fi, ev, it, iv, ph, fr, mi, aT, ed, bt, bv, oT, oV, pa) (nI q) (nI r) := by
  have key : ∀ (c : Nat), dc_be q r = q * c + r → post (nI q * nI c + nI r) := by
    intro c hc
    rw [pk_mul, nI_add, ← hc]; exact H
  by_cases h0 : r = 0
  · exact br_t (by rw [h0]; rfl) (key 1 (by unfold dc_be; rw [if_pos h0]))
  · refine br_f (nI_ne0 (by omega) (by omega)) ?_
    by_cases h3 : r ≤ 3
    · exact br_f (nI_ge (b := 4) (by omega) (by decide)) (key 3 (by unfold dc_be; rw [if_neg h0, if_pos h3]))
    · refine br_t (nI_le (a := 4) (by omega) (by omega)) ?_
      by_cases h12 : r ≤ 12
      · exact br_f (nI_ge (b := 13) (by omega) (by decide)) (key 9 (by unfold dc_be; rw [if_neg h0, if_neg h3, if_pos h12]))
      · exact br_t (nI_le (a := 13) (by omega) (by omega)) (key 27 (by unfold dc_be; rw [if_neg h0, if_neg h3, if_neg h12]))
theorem yd_remove {post : SY → Prop} {q : Nat} (hq : q < 40) : ∀ {n r : Nat} {th nm : Nat → Int32}, r + n = 40 → (∀ D, D = dc_rm q n r (th, nm) → post (li, to, mo, gi, ut, uv, hgh, cu, de, br, D.1, ot, D.2, on, yk, ya, yh, yo, yr, y1, y2, fi, ev, it, iv, ph, fr, mi, aT, ed, bt, bv, oT, oV, pa)) → wY_remove_2 post (nI q) li to mo gi ut uv hgh cu de br (n + 1) (nI r) th ot nm on yk ya yh yo yr y1 y2 fi ev it iv ph fr mi aT ed bt bv oT oV pa
  | 0, r, th, nm, hr, H => by
    have e : r = 40 := hr
    subst e
    exact br_t (by decide) (H (th, nm) rfl)
  | n + 1, r, th, nm, hr, H => by
    have hb := dc_be_b hq (show r < 40 by omega)
    refine br_f (nI_ge (b := 40) (by omega) (by decide)) (yd_under (by omega) ?_)
    by_cases h : dc_be q r < 40
    · have cl : (nI (dc_be q r)).toNatClampNeg = dc_be q r := nI_clamp (by omega)
      have hi : vp_in (nI (dc_be q r)) 40 := vp_in_nI h (by omega)
      refine br_f (nI_ge (b := 40) h (by decide)) ⟨hi, nm_r (e' := upd th (dc_be q r) 0) (by rw [cl, pb_b0]) ⟨hi, nm_r (e' := upd nm (dc_be q r) 0) (by rw [cl]) (nm_r (nI_1 r) (yd_remove hq (by omega) (fun D hD => H D ?_)))⟩⟩
      rw [dc_rm, if_pos h]; exact hD
    · refine br_t (nI_le (a := 40) (by omega) (by omega)) (nm_r (nI_1 r) (yd_remove hq (by omega) (fun D hD => H D ?_)))
      rw [dc_rm, if_neg h]; exact hD
theorem yd_rmv {post : SY → Prop} {q : Nat} (hq : q < 40) (H : ∀ D, D = dc_rmv q (th, nm) → post (li, to, mo, gi, ut, uv, hgh, cu, de, br, D.1, ot, D.2, on, yk, ya, yh, yo, yr, y1, y2, fi, ev, it, iv, ph, fr, mi, aT, ed, bt, bv, oT, oV, pa)) : wpY_remove post (li, to, mo, gi, ut, uv, hgh, cu, de, br, th, ot, nm, on, yk, ya, yh, yo, yr, y1, y2, fi, ev, it, iv, ph, fr, mi, aT, ed, bt, bv, oT, oV, pa) (nI q) := ⟨41, yd_remove hq rfl H⟩
theorem yd_124 {post : SY → Prop} {q x : Nat} {D0 : DD} (hq : q < 40) (hx : x < 40) (hN : ∀ j, j < 40 → ot j = D0.1 j ∧ on j = D0.2 j) : ∀ {n r : Nat} {th nm : Nat → Int32}, r + n = 40 → (∀ D, D = dc_pl D0 x q n r (th, nm) → post (li, to, mo, gi, ut, uv, hgh, cu, de, br, D.1, ot, D.2, on, yk, ya, yh, yo, yr, y1, y2, fi, ev, it, iv, ph, fr, mi, aT, ed, bt, bv, oT, oV, pa)) → wY_replace_124 post (nI q) 1 (nI x) li to mo gi ut uv hgh cu de br (n + 1) (nI r) th ot nm on yk ya yh yo yr y1 y2 fi ev it iv ph fr mi aT ed bt bv oT oV pa
  | 0, r, th, nm, hr, H => by
    have e : r = 40 := hr
    subst e
    exact br_t (by decide) (H (th, nm) rfl)
  | n + 1, r, th, nm, hr, H => by
    have hb := dc_be_b hq (show r < 40 by omega)
    have hbx := dc_be_b hx (show r < 40 by omega)
    refine br_f (nI_ge (b := 40) (by omega) (by decide)) (br_f (by decide) (yd_under (q := x) (by omega) (yd_under (q := q) (by omega) ?_)))
    by_cases h1 : dc_be x r < 40
    · have clx : (nI (dc_be x r)).toNatClampNeg = dc_be x r := nI_clamp (by omega)
      have hix : vp_in (nI (dc_be x r)) 40 := vp_in_nI h1 (by omega)
      refine br_f (nI_ge (b := 40) h1 (by decide)) ?_
      by_cases h2 : dc_be q r < 40
      · have cl : (nI (dc_be q r)).toNatClampNeg = dc_be q r := nI_clamp (by omega)
        have hi : vp_in (nI (dc_be q r)) 40 := vp_in_nI h2 (by omega)
        have hNr := hN (dc_be x r) h1
        refine br_f (nI_ge (b := 40) h2 (by decide)) ⟨hix, br_c (fun hz => nm_r (nI_1 r) (yd_124 hq hx hN (by omega) (fun D hD => H D ?_))) (fun hz => ⟨hi, nm_r (e' := upd th (dc_be q r) 1) (by rw [cl, pb_b1]) ⟨hix, hi, nm_r (e' := upd nm (dc_be q r) (D0.2 (dc_be x r))) (by rw [cl, clx, hNr.2]) (nm_r (nI_1 r) (yd_124 hq hx hN (by omega) (fun D hD => H D ?_)))⟩⟩)⟩
        · rw [clx, hNr.1] at hz
          rw [dc_pl, if_neg (fun z => z.2.2 hz)]; exact hD
        · rw [clx, hNr.1] at hz
          rw [dc_pl, if_pos ⟨h1, h2, hz⟩]; exact hD
      · refine br_t (nI_le (a := 40) (by omega) (by omega)) (nm_r (nI_1 r) (yd_124 hq hx hN (by omega) (fun D hD => H D ?_)))
        rw [dc_pl, if_neg (fun z => h2 z.2.1)]; exact hD
    · refine br_t (nI_le (a := 40) (by omega) (by omega)) (nm_r (nI_1 r) (yd_124 hq hx hN (by omega) (fun D hD => H D ?_)))
      rw [dc_pl, if_neg (fun z => h1 z.1)]; exact hD
theorem yd_64 {post : SY → Prop} {x1 x2 x3 x4 : Int32} (hb : dc_bl th) : ∀ {n r : Nat} {ot on : Nat → Int32}, r + n = 40 → (∀ j, j < r → ot j = th j ∧ on j = nm j) → (∀ ot on, (∀ j, j < 40 → ot j = th j ∧ on j = nm j) → ∀ m, wY_replace_64 post x1 x2 x3 x4 li to mo gi ut uv hgh cu de br (m + 1) 40 th ot nm on yk ya yh yo yr y1 y2 fi ev it iv ph fr mi aT ed bt bv oT oV pa) → wY_replace_64 post x1 x2 x3 x4 li to mo gi ut uv hgh cu de br (n + 1) (nI r) th ot nm on yk ya yh yo yr y1 y2 fi ev it iv ph fr mi aT ed bt bv oT oV pa
  | 0, r, ot, on, hr, h, H => by
    have e : r = 40 := hr
    subst e
    exact H ot on h 0
  | n + 1, r, ot, on, hr, h, H => by
    have cl : (nI r).toNatClampNeg = r := nI_clamp (by omega)
    have hi : vp_in (nI r) 40 := vp_in_nI (by omega) (by omega)
    refine br_f (nI_ge (b := 40) (by omega) (by decide)) ⟨hi, hi, nm_r (e' := upd ot r (th r)) (by rw [cl, pb_bv (hb r)]) ⟨hi, hi, nm_r (e' := upd on r (nm r)) (by rw [cl]) (nm_r (nI_1 r) (yd_64 hb (by omega) (fun j hj => ?_) H))⟩⟩
    by_cases e : j = r
    · subst e; exact ⟨pk_us, pk_us⟩
    · exact ⟨(pk_un e).trans (h j (by omega)).1, (pk_un e).trans (h j (by omega)).2⟩
/-- the reference's replace: none, an atom, or a place -/
theorem yd_replace {post : SY → Prop} {q : Nat} {l : List PV} (hq : q < 40) (hb : dc_bl th) (hl : l.length < 2 ^ 31) (hv : ∀ o, o ∈ l → aw_v o) (hcu : cu = nI l.length) (hs : yr_sg oT oV 0 l) (H : ∀ D ot on, D = dc_rp q (th, nm) l → post (li, to, mo, gi, ut, uv, hgh, cu, de, br, D.1, ot, D.2, on, yk, ya, yh, yo, yr, y1, y2, fi, ev, it, iv, ph, fr, mi, aT, ed, bt, bv, oT, oV, pa)) : wpY_replace post (li, to, mo, gi, ut, uv, hgh, cu, de, br, th, ot, nm, on, yk, ya, yh, yo, yr, y1, y2, fi, ev, it, iv, ph, fr, mi, aT, ed, bt, bv, oT, oV, pa) (nI q) := by
  have g52 : ∀ (x2 z0 : Int32), (∀ ot on, (∀ j, j < 40 → ot j = th j ∧ on j = nm j) → ∀ m, wY_replace_64 post (nI q) x2 z0 (oV 0) li to mo gi ut uv hgh cu de br (m + 1) 40 th ot nm on yk ya yh yo yr y1 y2 fi ev it iv ph fr mi aT ed bt bv oT oV pa) → wY_replace_52 post (nI q) x2 z0 li to mo gi ut uv hgh cu de br th ot nm on yk ya yh yo yr y1 y2 fi ev it iv ph fr mi aT ed bt bv oT oV pa := by
    intro x2 z0 h
    exact nm_e ⟨41, yd_64 (n := 40) (r := 0) hb rfl (fun j hj => by omega) h⟩
  cases l with
  | nil =>
    have c0 : cu ≤ 0 := by rw [hcu]; exact Int32.le_refl _
    refine br_t c0 (br_t c0 (g52 0 0 (fun ot on _ m => br_t (by decide) (yd_rmv hq (fun D hD => br_t rfl ⟨1, br_f (by decide) (br_t rfl (H D ot on hD))⟩)))))
  | cons o l =>
    have c0 : ¬ cu ≤ 0 := by rw [hcu]; exact nI_nle (Nat.succ_pos _) hl
    obtain ⟨s1, s2, _⟩ := hs
    have ho := hv o List.mem_cons_self
    refine br_f c0 ?_
    rw [dc_rp] at H
    by_cases h0 : o.1 = 0
    · rw [if_pos h0] at H
      refine br_t (by rw [s1]; exact h0) (br_f c0 (br_f (by decide) (g52 1 0 (fun ot on _ m => br_t (by decide) (yd_rmv hq (fun D hD => br_f (by decide) ⟨5, yd_raise (n := 4) hq rfl hq ⟨1, br_f (by decide) (br_t rfl ?_)⟩⟩))))))
      have := H (dc_ra 4 (dc_rmv q (th, nm)).1 q, upd (dc_rmv q (th, nm)).2 q o.2) ot on rfl
      rw [← hD, ← s2] at this
      exact this
    · rw [if_neg h0] at H
      obtain ⟨j, hj, ej⟩ := ho.2 h0
      have clj : (nI j).toNatClampNeg = j := nI_clamp (by omega)
      rw [ej, clj] at H
      have s3 : oV 0 = nI j := s2.trans ej
      refine br_f (by rw [s1]; exact h0) (br_f c0 (br_t rfl ⟨by rw [s3]; exact vp_in_nI hj (by omega), ?_⟩))
      by_cases hp : th j = 0
      · rw [if_pos hp] at H
        exact br_t (by rw [s3, clj]; exact hp) (g52 0 0 (fun ot on _ m => br_t (by decide) (yd_rmv hq (fun D hD => br_t rfl ⟨1, br_f (by decide) (br_t rfl (H D ot on hD))⟩))))
      · rw [if_neg hp] at H
        refine br_f (by rw [s3, clj]; exact hp) (g52 0 1 (fun ot on hoo m => br_t (by decide) (yd_rmv hq (fun D hD => br_t rfl ?_))))
        rw [s3]
        exact ⟨41, yd_124 (x := j) (D0 := (th, nm)) hq hj hoo rfl (fun D' hD' => H D' ot on (by rw [hD', ← hD]))⟩
end
end
section
/-! ===== the relation ===== -/
/-- what both sides hold: the program, the document, the state of the enumeration -/
def zz_G (p : PG) (wt op' : Nat → Nat) (iw : Nat → Nat → Nat) (Y R : Nat → List Nat) (T rmn g s : Nat) (rm tc fc tw ht ft md nd en co vk vl st fe : Int32) (pr nu np nn tg ka ar c1 c2 c3 ro we op cT cN cE cK cV cX gN gE gC gK gV gH gT : Nat → Int32) (li to mo gi ut uv hgh cu de br : Int32) (th ot nm on yk ya yh yo yr y1 y2 fi ev it iv ph fr mi aT ed bt bv oT oV pa : Nat → Int32) : Prop :=
  (PW p wt op' iw Y R T ∧ rm = nI rmn ∧ li = nI rmn ∧ 8 ≤ rmn ∧ rmn ≤ 24)
  ∧ (tc = nI T ∧ to = nI T ∧ fc = nI (R T).length ∧ tw = nI (pw_sm wt (R T)) ∧ pw_sm wt (R T) ≤ rmn)
  ∧ (xr_p p T ka ar c1 c2 c3 ∧ sk_r wt op' ro we op (R T) ∧ yr_p p T yk ya y1 y2)
  ∧ (pr = pg_p p ∧ th = pg_p p ∧ nu = pg_n p ∧ nm = pg_n p ∧ dc_bl (pg_p p))
  ∧ (st = nI s ∧ mo = nI s ∧ s ≤ 4 ∧ fe = nI g ∧ gi = nI g)
  ∧ (s = 1 ∨ s = 2 ∨ s = 3 → 0 < T ∧ g ≤ (ps_ev p 24 (T - 1) [] (2, nI 0)).1.length ∧ xr_R p iw T ((ps_ev p 24 (T - 1) [] (2, nI 0)).1.drop g) ht ft md nd en co vk vl (cT, cN, cE, cK, cV, cX) (gN, gE, gC, gK, gV, gH, gT))
  ∧ (s = 2 ∨ s = 3 → ut = vk ∧ uv = vl ∧ aw_v (vk, vl))
def zz_P (rm tc fc tw ht ft md nd en co vk vl st fe : Int32) (pr nu np nn tg ka ar c1 c2 c3 ro we op cT cN cE cK cV cX gN gE gC gK gV gH gT : Nat → Int32) (li to mo gi ut uv hgh cu de br : Int32) (th ot nm on yk ya yh yo yr y1 y2 fi ev it iv ph fr mi aT ed bt bv oT oV pa : Nat → Int32) : Prop := ∃ (p : PG) (wt op' : Nat → Nat) (iw : Nat → Nat → Nat) (Y R : Nat → List Nat) (T rmn g s : Nat), zz_G p wt op' iw Y R T rmn g s rm tc fc tw ht ft md nd en co vk vl st fe pr nu np nn tg ka ar c1 c2 c3 ro we op cT cN cE cK cV cX gN gE gC gK gV gH gT li to mo gi ut uv hgh cu de br th ot nm on yk ya yh yo yr y1 y2 fi ev it iv ph fr mi aT ed bt bv oT oV pa
def i_Rel (k : Nat) (u : SX) (v : SY) : Prop := zz_P u.2.2.2.2.2.2.2.2.2.2.2.1 u.2.2.2.2.2.2.2.2.2.2.2.2.1 u.2.2.2.2.2.2.2.2.2.2.2.2.2.1 u.2.2.2.2.2.2.2.2.2.2.2.2.2.2.1 u.2.2.2.2.2.2.2.2.2.2.2.2.2.2.2.1 u.2.2.2.2.2.2.2.2.2.2.2.2.2.2.2.2.1 u.2.2.2.2.2.2.2.2.2.2.2.2.2.2.2.2.2.1 u.2.2.2.2.2.2.2.2.2.2.2.2.2.2.2.2.2.2.1 u.2.2.2.2.2.2.2.2.2.2.2.2.2.2.2.2.2.2.2.1 u.2.2.2.2.2.2.2.2.2.2.2.2.2.2.2.2.2.2.2.2.1 u.2.2.2.2.2.2.2.2.2.2.2.2.2.2.2.2.2.2.2.2.2.1 u.2.2.2.2.2.2.2.2.2.2.2.2.2.2.2.2.2.2.2.2.2.2.1 u.2.2.2.2.2.2.2.2.2.2.2.2.2.2.2.2.2.2.2.2.2.2.2.1 u.2.2.2.2.2.2.2.2.2.2.2.2.2.2.2.2.2.2.2.2.2.2.2.2.1 u.2.2.2.2.2.2.2.2.2.2.2.2.2.2.2.2.2.2.2.2.2.2.2.2.2.1 u.2.2.2.2.2.2.2.2.2.2.2.2.2.2.2.2.2.2.2.2.2.2.2.2.2.2.1 u.2.2.2.2.2.2.2.2.2.2.2.2.2.2.2.2.2.2.2.2.2.2.2.2.2.2.2.1 u.2.2.2.2.2.2.2.2.2.2.2.2.2.2.2.2.2.2.2.2.2.2.2.2.2.2.2.2.1 u.2.2.2.2.2.2.2.2.2.2.2.2.2.2.2.2.2.2.2.2.2.2.2.2.2.2.2.2.2.1 u.2.2.2.2.2.2.2.2.2.2.2.2.2.2.2.2.2.2.2.2.2.2.2.2.2.2.2.2.2.2.1 u.2.2.2.2.2.2.2.2.2.2.2.2.2.2.2.2.2.2.2.2.2.2.2.2.2.2.2.2.2.2.2.1 u.2.2.2.2.2.2.2.2.2.2.2.2.2.2.2.2.2.2.2.2.2.2.2.2.2.2.2.2.2.2.2.2.1 u.2.2.2.2.2.2.2.2.2.2.2.2.2.2.2.2.2.2.2.2.2.2.2.2.2.2.2.2.2.2.2.2.2.1 u.2.2.2.2.2.2.2.2.2.2.2.2.2.2.2.2.2.2.2.2.2.2.2.2.2.2.2.2.2.2.2.2.2.2.1 u.2.2.2.2.2.2.2.2.2.2.2.2.2.2.2.2.2.2.2.2.2.2.2.2.2.2.2.2.2.2.2.2.2.2.2.1 u.2.2.2.2.2.2.2.2.2.2.2.2.2.2.2.2.2.2.2.2.2.2.2.2.2.2.2.2.2.2.2.2.2.2.2.2.1 u.2.2.2.2.2.2.2.2.2.2.2.2.2.2.2.2.2.2.2.2.2.2.2.2.2.2.2.2.2.2.2.2.2.2.2.2.2.1 u.2.2.2.2.2.2.2.2.2.2.2.2.2.2.2.2.2.2.2.2.2.2.2.2.2.2.2.2.2.2.2.2.2.2.2.2.2.2.1 u.2.2.2.2.2.2.2.2.2.2.2.2.2.2.2.2.2.2.2.2.2.2.2.2.2.2.2.2.2.2.2.2.2.2.2.2.2.2.2.1 u.2.2.2.2.2.2.2.2.2.2.2.2.2.2.2.2.2.2.2.2.2.2.2.2.2.2.2.2.2.2.2.2.2.2.2.2.2.2.2.2.1 u.2.2.2.2.2.2.2.2.2.2.2.2.2.2.2.2.2.2.2.2.2.2.2.2.2.2.2.2.2.2.2.2.2.2.2.2.2.2.2.2.2.1 u.2.2.2.2.2.2.2.2.2.2.2.2.2.2.2.2.2.2.2.2.2.2.2.2.2.2.2.2.2.2.2.2.2.2.2.2.2.2.2.2.2.2.1 u.2.2.2.2.2.2.2.2.2.2.2.2.2.2.2.2.2.2.2.2.2.2.2.2.2.2.2.2.2.2.2.2.2.2.2.2.2.2.2.2.2.2.2.1 u.2.2.2.2.2.2.2.2.2.2.2.2.2.2.2.2.2.2.2.2.2.2.2.2.2.2.2.2.2.2.2.2.2.2.2.2.2.2.2.2.2.2.2.2.1 u.2.2.2.2.2.2.2.2.2.2.2.2.2.2.2.2.2.2.2.2.2.2.2.2.2.2.2.2.2.2.2.2.2.2.2.2.2.2.2.2.2.2.2.2.2.1 u.2.2.2.2.2.2.2.2.2.2.2.2.2.2.2.2.2.2.2.2.2.2.2.2.2.2.2.2.2.2.2.2.2.2.2.2.2.2.2.2.2.2.2.2.2.2.1 u.2.2.2.2.2.2.2.2.2.2.2.2.2.2.2.2.2.2.2.2.2.2.2.2.2.2.2.2.2.2.2.2.2.2.2.2.2.2.2.2.2.2.2.2.2.2.2.1 u.2.2.2.2.2.2.2.2.2.2.2.2.2.2.2.2.2.2.2.2.2.2.2.2.2.2.2.2.2.2.2.2.2.2.2.2.2.2.2.2.2.2.2.2.2.2.2.2.1 u.2.2.2.2.2.2.2.2.2.2.2.2.2.2.2.2.2.2.2.2.2.2.2.2.2.2.2.2.2.2.2.2.2.2.2.2.2.2.2.2.2.2.2.2.2.2.2.2.2.1 u.2.2.2.2.2.2.2.2.2.2.2.2.2.2.2.2.2.2.2.2.2.2.2.2.2.2.2.2.2.2.2.2.2.2.2.2.2.2.2.2.2.2.2.2.2.2.2.2.2.2 v.1 v.2.1 v.2.2.1 v.2.2.2.1 v.2.2.2.2.1 v.2.2.2.2.2.1 v.2.2.2.2.2.2.1 v.2.2.2.2.2.2.2.1 v.2.2.2.2.2.2.2.2.1 v.2.2.2.2.2.2.2.2.2.1 v.2.2.2.2.2.2.2.2.2.2.1 v.2.2.2.2.2.2.2.2.2.2.2.1 v.2.2.2.2.2.2.2.2.2.2.2.2.1 v.2.2.2.2.2.2.2.2.2.2.2.2.2.1 v.2.2.2.2.2.2.2.2.2.2.2.2.2.2.1 v.2.2.2.2.2.2.2.2.2.2.2.2.2.2.2.1 v.2.2.2.2.2.2.2.2.2.2.2.2.2.2.2.2.1 v.2.2.2.2.2.2.2.2.2.2.2.2.2.2.2.2.2.1 v.2.2.2.2.2.2.2.2.2.2.2.2.2.2.2.2.2.2.1 v.2.2.2.2.2.2.2.2.2.2.2.2.2.2.2.2.2.2.2.1 v.2.2.2.2.2.2.2.2.2.2.2.2.2.2.2.2.2.2.2.2.1 v.2.2.2.2.2.2.2.2.2.2.2.2.2.2.2.2.2.2.2.2.2.1 v.2.2.2.2.2.2.2.2.2.2.2.2.2.2.2.2.2.2.2.2.2.2.1 v.2.2.2.2.2.2.2.2.2.2.2.2.2.2.2.2.2.2.2.2.2.2.2.1 v.2.2.2.2.2.2.2.2.2.2.2.2.2.2.2.2.2.2.2.2.2.2.2.2.1 v.2.2.2.2.2.2.2.2.2.2.2.2.2.2.2.2.2.2.2.2.2.2.2.2.2.1 v.2.2.2.2.2.2.2.2.2.2.2.2.2.2.2.2.2.2.2.2.2.2.2.2.2.2.1 v.2.2.2.2.2.2.2.2.2.2.2.2.2.2.2.2.2.2.2.2.2.2.2.2.2.2.2.1 v.2.2.2.2.2.2.2.2.2.2.2.2.2.2.2.2.2.2.2.2.2.2.2.2.2.2.2.2.1 v.2.2.2.2.2.2.2.2.2.2.2.2.2.2.2.2.2.2.2.2.2.2.2.2.2.2.2.2.2.1 v.2.2.2.2.2.2.2.2.2.2.2.2.2.2.2.2.2.2.2.2.2.2.2.2.2.2.2.2.2.2.1 v.2.2.2.2.2.2.2.2.2.2.2.2.2.2.2.2.2.2.2.2.2.2.2.2.2.2.2.2.2.2.2.1 v.2.2.2.2.2.2.2.2.2.2.2.2.2.2.2.2.2.2.2.2.2.2.2.2.2.2.2.2.2.2.2.2.1 v.2.2.2.2.2.2.2.2.2.2.2.2.2.2.2.2.2.2.2.2.2.2.2.2.2.2.2.2.2.2.2.2.2.1 v.2.2.2.2.2.2.2.2.2.2.2.2.2.2.2.2.2.2.2.2.2.2.2.2.2.2.2.2.2.2.2.2.2.2
theorem i_up {k : Nat} {u : SX} {v : SY} (h : i_Rel k u v) : i_Rel (k + 3) u v := h
theorem zz_el {k : Nat} {u : SX} {v : SY} {P : SX → SY → Prop} (h : ∀ (k0 k1 k2 k3 k4 k5 k6 k7 k8 k9 k10 rm tc fc tw ht ft md nd en co vk vl st fe : Int32) (pr nu np nn tg ka ar c1 c2 c3 ro we op cT cN cE cK cV cX gN gE gC gK gV gH gT : Nat → Int32) (li to mo gi ut uv hgh cu de br : Int32) (th ot nm on yk ya yh yo yr y1 y2 fi ev it iv ph fr mi aT ed bt bv oT oV pa : Nat → Int32), zz_P rm tc fc tw ht ft md nd en co vk vl st fe pr nu np nn tg ka ar c1 c2 c3 ro we op cT cN cE cK cV cX gN gE gC gK gV gH gT li to mo gi ut uv hgh cu de br th ot nm on yk ya yh yo yr y1 y2 fi ev it iv ph fr mi aT ed bt bv oT oV pa → P (k0, k1, k2, k3, k4, k5, k6, k7, k8, k9, k10, rm, tc, fc, tw, ht, ft, md, nd, en, co, vk, vl, st, fe, pr, nu, np, nn, tg, ka, ar, c1, c2, c3, ro, we, op, cT, cN, cE, cK, cV, cX, gN, gE, gC, gK, gV, gH, gT) (li, to, mo, gi, ut, uv, hgh, cu, de, br, th, ot, nm, on, yk, ya, yh, yo, yr, y1, y2, fi, ev, it, iv, ph, fr, mi, aT, ed, bt, bv, oT, oV, pa)) (I : i_Rel k u v) : P u v := h u.1 u.2.1 u.2.2.1 u.2.2.2.1 u.2.2.2.2.1 u.2.2.2.2.2.1 u.2.2.2.2.2.2.1 u.2.2.2.2.2.2.2.1 u.2.2.2.2.2.2.2.2.1 u.2.2.2.2.2.2.2.2.2.1 u.2.2.2.2.2.2.2.2.2.2.1 u.2.2.2.2.2.2.2.2.2.2.2.1 u.2.2.2.2.2.2.2.2.2.2.2.2.1 u.2.2.2.2.2.2.2.2.2.2.2.2.2.1 u.2.2.2.2.2.2.2.2.2.2.2.2.2.2.1 u.2.2.2.2.2.2.2.2.2.2.2.2.2.2.2.1 u.2.2.2.2.2.2.2.2.2.2.2.2.2.2.2.2.1 u.2.2.2.2.2.2.2.2.2.2.2.2.2.2.2.2.2.1 u.2.2.2.2.2.2.2.2.2.2.2.2.2.2.2.2.2.2.1 u.2.2.2.2.2.2.2.2.2.2.2.2.2.2.2.2.2.2.2.1 u.2.2.2.2.2.2.2.2.2.2.2.2.2.2.2.2.2.2.2.2.1 u.2.2.2.2.2.2.2.2.2.2.2.2.2.2.2.2.2.2.2.2.2.1 u.2.2.2.2.2.2.2.2.2.2.2.2.2.2.2.2.2.2.2.2.2.2.1 u.2.2.2.2.2.2.2.2.2.2.2.2.2.2.2.2.2.2.2.2.2.2.2.1 u.2.2.2.2.2.2.2.2.2.2.2.2.2.2.2.2.2.2.2.2.2.2.2.2.1 u.2.2.2.2.2.2.2.2.2.2.2.2.2.2.2.2.2.2.2.2.2.2.2.2.2.1 u.2.2.2.2.2.2.2.2.2.2.2.2.2.2.2.2.2.2.2.2.2.2.2.2.2.2.1 u.2.2.2.2.2.2.2.2.2.2.2.2.2.2.2.2.2.2.2.2.2.2.2.2.2.2.2.1 u.2.2.2.2.2.2.2.2.2.2.2.2.2.2.2.2.2.2.2.2.2.2.2.2.2.2.2.2.1 u.2.2.2.2.2.2.2.2.2.2.2.2.2.2.2.2.2.2.2.2.2.2.2.2.2.2.2.2.2.1 u.2.2.2.2.2.2.2.2.2.2.2.2.2.2.2.2.2.2.2.2.2.2.2.2.2.2.2.2.2.2.1 u.2.2.2.2.2.2.2.2.2.2.2.2.2.2.2.2.2.2.2.2.2.2.2.2.2.2.2.2.2.2.2.1 u.2.2.2.2.2.2.2.2.2.2.2.2.2.2.2.2.2.2.2.2.2.2.2.2.2.2.2.2.2.2.2.2.1 u.2.2.2.2.2.2.2.2.2.2.2.2.2.2.2.2.2.2.2.2.2.2.2.2.2.2.2.2.2.2.2.2.2.1 u.2.2.2.2.2.2.2.2.2.2.2.2.2.2.2.2.2.2.2.2.2.2.2.2.2.2.2.2.2.2.2.2.2.2.1 u.2.2.2.2.2.2.2.2.2.2.2.2.2.2.2.2.2.2.2.2.2.2.2.2.2.2.2.2.2.2.2.2.2.2.2.1 u.2.2.2.2.2.2.2.2.2.2.2.2.2.2.2.2.2.2.2.2.2.2.2.2.2.2.2.2.2.2.2.2.2.2.2.2.1 u.2.2.2.2.2.2.2.2.2.2.2.2.2.2.2.2.2.2.2.2.2.2.2.2.2.2.2.2.2.2.2.2.2.2.2.2.2.1 u.2.2.2.2.2.2.2.2.2.2.2.2.2.2.2.2.2.2.2.2.2.2.2.2.2.2.2.2.2.2.2.2.2.2.2.2.2.2.1 u.2.2.2.2.2.2.2.2.2.2.2.2.2.2.2.2.2.2.2.2.2.2.2.2.2.2.2.2.2.2.2.2.2.2.2.2.2.2.2.1 u.2.2.2.2.2.2.2.2.2.2.2.2.2.2.2.2.2.2.2.2.2.2.2.2.2.2.2.2.2.2.2.2.2.2.2.2.2.2.2.2.1 u.2.2.2.2.2.2.2.2.2.2.2.2.2.2.2.2.2.2.2.2.2.2.2.2.2.2.2.2.2.2.2.2.2.2.2.2.2.2.2.2.2.1 u.2.2.2.2.2.2.2.2.2.2.2.2.2.2.2.2.2.2.2.2.2.2.2.2.2.2.2.2.2.2.2.2.2.2.2.2.2.2.2.2.2.2.1 u.2.2.2.2.2.2.2.2.2.2.2.2.2.2.2.2.2.2.2.2.2.2.2.2.2.2.2.2.2.2.2.2.2.2.2.2.2.2.2.2.2.2.2.1 u.2.2.2.2.2.2.2.2.2.2.2.2.2.2.2.2.2.2.2.2.2.2.2.2.2.2.2.2.2.2.2.2.2.2.2.2.2.2.2.2.2.2.2.2.1 u.2.2.2.2.2.2.2.2.2.2.2.2.2.2.2.2.2.2.2.2.2.2.2.2.2.2.2.2.2.2.2.2.2.2.2.2.2.2.2.2.2.2.2.2.2.1 u.2.2.2.2.2.2.2.2.2.2.2.2.2.2.2.2.2.2.2.2.2.2.2.2.2.2.2.2.2.2.2.2.2.2.2.2.2.2.2.2.2.2.2.2.2.2.1 u.2.2.2.2.2.2.2.2.2.2.2.2.2.2.2.2.2.2.2.2.2.2.2.2.2.2.2.2.2.2.2.2.2.2.2.2.2.2.2.2.2.2.2.2.2.2.2.1 u.2.2.2.2.2.2.2.2.2.2.2.2.2.2.2.2.2.2.2.2.2.2.2.2.2.2.2.2.2.2.2.2.2.2.2.2.2.2.2.2.2.2.2.2.2.2.2.2.1 u.2.2.2.2.2.2.2.2.2.2.2.2.2.2.2.2.2.2.2.2.2.2.2.2.2.2.2.2.2.2.2.2.2.2.2.2.2.2.2.2.2.2.2.2.2.2.2.2.2.1 u.2.2.2.2.2.2.2.2.2.2.2.2.2.2.2.2.2.2.2.2.2.2.2.2.2.2.2.2.2.2.2.2.2.2.2.2.2.2.2.2.2.2.2.2.2.2.2.2.2.2 v.1 v.2.1 v.2.2.1 v.2.2.2.1 v.2.2.2.2.1 v.2.2.2.2.2.1 v.2.2.2.2.2.2.1 v.2.2.2.2.2.2.2.1 v.2.2.2.2.2.2.2.2.1 v.2.2.2.2.2.2.2.2.2.1 v.2.2.2.2.2.2.2.2.2.2.1 v.2.2.2.2.2.2.2.2.2.2.2.1 v.2.2.2.2.2.2.2.2.2.2.2.2.1 v.2.2.2.2.2.2.2.2.2.2.2.2.2.1 v.2.2.2.2.2.2.2.2.2.2.2.2.2.2.1 v.2.2.2.2.2.2.2.2.2.2.2.2.2.2.2.1 v.2.2.2.2.2.2.2.2.2.2.2.2.2.2.2.2.1 v.2.2.2.2.2.2.2.2.2.2.2.2.2.2.2.2.2.1 v.2.2.2.2.2.2.2.2.2.2.2.2.2.2.2.2.2.2.1 v.2.2.2.2.2.2.2.2.2.2.2.2.2.2.2.2.2.2.2.1 v.2.2.2.2.2.2.2.2.2.2.2.2.2.2.2.2.2.2.2.2.1 v.2.2.2.2.2.2.2.2.2.2.2.2.2.2.2.2.2.2.2.2.2.1 v.2.2.2.2.2.2.2.2.2.2.2.2.2.2.2.2.2.2.2.2.2.2.1 v.2.2.2.2.2.2.2.2.2.2.2.2.2.2.2.2.2.2.2.2.2.2.2.1 v.2.2.2.2.2.2.2.2.2.2.2.2.2.2.2.2.2.2.2.2.2.2.2.2.1 v.2.2.2.2.2.2.2.2.2.2.2.2.2.2.2.2.2.2.2.2.2.2.2.2.2.1 v.2.2.2.2.2.2.2.2.2.2.2.2.2.2.2.2.2.2.2.2.2.2.2.2.2.2.1 v.2.2.2.2.2.2.2.2.2.2.2.2.2.2.2.2.2.2.2.2.2.2.2.2.2.2.2.1 v.2.2.2.2.2.2.2.2.2.2.2.2.2.2.2.2.2.2.2.2.2.2.2.2.2.2.2.2.1 v.2.2.2.2.2.2.2.2.2.2.2.2.2.2.2.2.2.2.2.2.2.2.2.2.2.2.2.2.2.1 v.2.2.2.2.2.2.2.2.2.2.2.2.2.2.2.2.2.2.2.2.2.2.2.2.2.2.2.2.2.2.1 v.2.2.2.2.2.2.2.2.2.2.2.2.2.2.2.2.2.2.2.2.2.2.2.2.2.2.2.2.2.2.2.1 v.2.2.2.2.2.2.2.2.2.2.2.2.2.2.2.2.2.2.2.2.2.2.2.2.2.2.2.2.2.2.2.2.1 v.2.2.2.2.2.2.2.2.2.2.2.2.2.2.2.2.2.2.2.2.2.2.2.2.2.2.2.2.2.2.2.2.2.1 v.2.2.2.2.2.2.2.2.2.2.2.2.2.2.2.2.2.2.2.2.2.2.2.2.2.2.2.2.2.2.2.2.2.2 I
section
variable {k0 k1 k2 k3 k4 k5 k6 k7 k8 k9 k10 rm tc fc tw ht ft md nd en co vk vl st fe : Int32} {pr nu np nn tg ka ar c1 c2 c3 ro we op cT cN cE cK cV cX gN gE gC gK gV gH gT : Nat → Int32} {li to mo gi ut uv hgh cu de br : Int32} {th ot nm on yk ya yh yo yr y1 y2 fi ev it iv ph fr mi aT ed bt bv oT oV pa : Nat → Int32}
theorem zz_i {k : Nat} (h : zz_P rm tc fc tw ht ft md nd en co vk vl st fe pr nu np nn tg ka ar c1 c2 c3 ro we op cT cN cE cK cV cX gN gE gC gK gV gH gT li to mo gi ut uv hgh cu de br th ot nm on yk ya yh yo yr y1 y2 fi ev it iv ph fr mi aT ed bt bv oT oV pa) : i_Rel k (k0, k1, k2, k3, k4, k5, k6, k7, k8, k9, k10, rm, tc, fc, tw, ht, ft, md, nd, en, co, vk, vl, st, fe, pr, nu, np, nn, tg, ka, ar, c1, c2, c3, ro, we, op, cT, cN, cE, cK, cV, cX, gN, gE, gC, gK, gV, gH, gT) (li, to, mo, gi, ut, uv, hgh, cu, de, br, th, ot, nm, on, yk, ya, yh, yo, yr, y1, y2, fi, ev, it, iv, ph, fr, mi, aT, ed, bt, bv, oT, oV, pa) := h
end
theorem i_vc0 (k0 : Int32) : wpX_init (fun u => wpY_init (fun v => i_Rel 1 u v) k0) k0 := by
  have key : ∀ n, 8 ≤ n → n ≤ 24 → zz_P (nI n) 0 0 0 1 0 4 0 0 0 0 0 0 0 (fun _ => 0) (fun _ => 0) (fun _ => 0) (fun _ => 0) (fun _ => 0) (fun _ => 0) (fun _ => 0) (fun _ => 0) (fun _ => 0) (fun _ => 0) (fun _ => 0) (fun _ => 0) (fun _ => 0) (fun _ => 0) (fun _ => 0) (fun _ => 0) (fun _ => 0) (fun _ => 0) (fun _ => 0) (fun _ => 0) (fun _ => 0) (fun _ => 0) (fun _ => 0) (fun _ => 0) (fun _ => 0) (fun _ => 0) (nI n) 0 0 0 0 0 0 0 0 0 (fun _ => 0) (fun _ => 0) (fun _ => 0) (fun _ => 0) (fun _ => 0) (fun _ => 0) (fun _ => 0) (fun _ => 0) (fun _ => 0) (fun _ => 0) (fun _ => 0) (fun _ => 0) (fun _ => 0) (fun _ => 0) (fun _ => 0) (fun _ => 0) (fun _ => 0) (fun _ => 0) (fun _ => 0) (fun _ => 0) (fun _ => 0) (fun _ => 0) (fun _ => 0) (fun _ => 0) (fun _ => 0) := by
    intro n h8 h24
    refine ⟨(fun _ => 0, fun _ => 0, fun _ => 0, fun _ => 0, fun _ => 0, fun _ => 0, fun _ => 0), fun _ => 0, fun _ => 0, fun _ _ => 0, fun _ => [], fun _ => [], 0, n, 0, 0, ⟨⟨rfl, fun i hi => by omega⟩, rfl, rfl, h8, h24⟩, ⟨rfl, rfl, rfl, rfl, Nat.zero_le _⟩, ⟨fun i hi => by omega, trivial, fun i hi => by omega⟩, ⟨rfl, rfl, rfl, rfl, fun _ => Or.inl rfl⟩, ⟨rfl, rfl, Nat.zero_le _, rfl, rfl⟩, fun z => by omega, fun z => by omega⟩
  by_cases h8 : 8 ≤ k0
  · by_cases h24 : k0 ≤ 24
    · have hn0 : ¬ k0 < 0 := Int32.not_lt.mpr (Int32.le_trans (by decide) h8)
      obtain ⟨n, hn, rfl⟩ := nI_of2 (M := 24) (n := 24) (by decide) hn0 h24
      have h8' : 8 ≤ n := by
        have : nI 8 ≤ nI n := h8
        rwa [nI_leI (by omega) (by omega)] at this
      exact br_t h8 (br_t h24 (br_t h8 (br_t h24 (key n h8' hn))))
    · exact br_t h8 (br_f h24 (br_t h8 (br_f h24 (key 24 (by decide) (by decide)))))
  · exact br_f h8 (br_f h8 (key 8 (by decide) (by decide)))
theorem i_vc_state {k : Nat} {u : SX} {v : SY} (I : i_Rel k u v) (hk : k + 3 ≤ 1537) : wpX_state (fun r => wpY_state (fun r' => r' = r ∧ i_Rel (k + 3) u v) v) u := by
  have J := I
  revert J
  refine zz_el (P := fun u v => i_Rel k u v → wpX_state (fun r => wpY_state (fun r' => r' = r ∧ i_Rel (k + 3) u v) v) u) ?_ I
  intro k0 k1 k2 k3 k4 k5 k6 k7 k8 k9 k10 rm tc fc tw ht ft md nd en co vk vl st fe pr nu np nn tg ka ar c1 c2 c3 ro we op cT cN cE cK cV cX gN gE gC gK gV gH gT li to mo gi ut uv hgh cu de br th ot nm on yk ya yh yo yr y1 y2 fi ev it iv ph fr mi aT ed bt bv oT oV pa
  rintro ⟨p, wt, op', iw, Y, R, T, rmn, g, s, A, B, C, D, E, F, G⟩ J
  exact ⟨E.2.1.trans E.1.symm, J⟩
theorem i_vc_fetched {k : Nat} {u : SX} {v : SY} (I : i_Rel k u v) (hk : k + 3 ≤ 1537) : wpX_fetched (fun r => wpY_fetched (fun r' => r' = r ∧ i_Rel (k + 3) u v) v) u := by
  have J := I
  revert J
  refine zz_el (P := fun u v => i_Rel k u v → wpX_fetched (fun r => wpY_fetched (fun r' => r' = r ∧ i_Rel (k + 3) u v) v) u) ?_ I
  intro k0 k1 k2 k3 k4 k5 k6 k7 k8 k9 k10 rm tc fc tw ht ft md nd en co vk vl st fe pr nu np nn tg ka ar c1 c2 c3 ro we op cT cN cE cK cV cX gN gE gC gK gV gH gT li to mo gi ut uv hgh cu de br th ot nm on yk ya yh yo yr y1 y2 fi ev it iv ph fr mi aT ed bt bv oT oV pa
  rintro ⟨p, wt, op', iw, Y, R, T, rmn, g, s, A, B, C, D, E, F, G⟩ J
  exact ⟨E.2.2.2.2.trans E.2.2.2.1.symm, J⟩
theorem i_vc_path {k : Nat} {u : SX} {v : SY} (I : i_Rel k u v) (hk : k + 3 ≤ 1537) : wpX_path (fun r => wpY_path (fun r' => r' = r ∧ i_Rel (k + 3) u v) v) u := by
  have J := I
  revert J
  refine zz_el (P := fun u v => i_Rel k u v → wpX_path (fun r => wpY_path (fun r' => r' = r ∧ i_Rel (k + 3) u v) v) u) ?_ I
  intro k0 k1 k2 k3 k4 k5 k6 k7 k8 k9 k10 rm tc fc tw ht ft md nd en co vk vl st fe pr nu np nn tg ka ar c1 c2 c3 ro we op cT cN cE cK cV cX gN gE gC gK gV gH gT li to mo gi ut uv hgh cu de br th ot nm on yk ya yh yo yr y1 y2 fi ev it iv ph fr mi aT ed bt bv oT oV pa
  rintro ⟨p, wt, op', iw, Y, R, T, rmn, g, s, A, B, C, D, E, F, G⟩ J
  have hs : ∀ n, n < 5 → (nI s = nI n ↔ s = n) := fun n hn => nI_eq (by have := E.2.2.1; omega) (by omega)
  by_cases h2 : s = 2
  · exact br_t (by rw [E.1]; exact (hs 2 (by omega)).mpr h2) (br_t (by rw [E.2.1]; exact (hs 2 (by omega)).mpr h2) ⟨(G (Or.inl h2)).2.1, J⟩)
  · exact br_f (by rw [E.1]; exact fun z => h2 ((hs 2 (by omega)).mp z)) (br_f (by rw [E.2.1]; exact fun z => h2 ((hs 2 (by omega)).mp z)) ⟨rfl, J⟩)
theorem i_vc_clear {k : Nat} {u : SX} {v : SY} (I : i_Rel k u v) (hk : k + 3 ≤ 1537) : wpX_clear (fun u' => wpY_clear (fun v' => i_Rel (k + 3) u' v') v) u := by
  refine zz_el (P := fun u v => wpX_clear (fun u' => wpY_clear (fun v' => i_Rel (k + 3) u' v') v) u) ?_ I
  intro k0 k1 k2 k3 k4 k5 k6 k7 k8 k9 k10 rm tc fc tw ht ft md nd en co vk vl st fe pr nu np nn tg ka ar c1 c2 c3 ro we op cT cN cE cK cV cX gN gE gC gK gV gH gT li to mo gi ut uv hgh cu de br th ot nm on yk ya yh yo yr y1 y2 fi ev it iv ph fr mi aT ed bt bv oT oV pa
  rintro ⟨p, wt, op', iw, Y, R, T, rmn, g, s, A, B, C, D, E, F, G⟩
  have h0 := A.1.1
  exact ⟨p, wt, op', iw, Y, R, 0, rmn, 0, 0, ⟨⟨h0, fun i hi => by omega⟩, A.2.1, A.2.2.1, A.2.2.2.1, A.2.2.2.2⟩, ⟨rfl, rfl, by rw [h0]; rfl, by rw [h0]; rfl, by rw [h0]; exact Nat.zero_le _⟩, ⟨fun i hi => by omega, by rw [h0]; trivial, fun i hi => by omega⟩, D, ⟨rfl, rfl, Nat.zero_le _, rfl, rfl⟩, (fun z => by omega), (fun z => by omega)⟩
theorem i_vc_kindAt {k : Nat} {u : SX} {v : SY} (I : i_Rel k u v) (hk : k + 3 ≤ 1537) (v1 : Int32) : wpX_kindAt (fun r => wpY_kindAt (fun r' => r' = r ∧ i_Rel (k + 3) u v) v v1) u v1 := by
  have J := I
  revert J
  refine zz_el (P := fun u v => i_Rel k u v → wpX_kindAt (fun r => wpY_kindAt (fun r' => r' = r ∧ i_Rel (k + 3) u v) v v1) u v1) ?_ I
  intro k0 k1 k2 k3 k4 k5 k6 k7 k8 k9 k10 rm tc fc tw ht ft md nd en co vk vl st fe pr nu np nn tg ka ar c1 c2 c3 ro we op cT cN cE cK cV cX gN gE gC gK gV gH gT li to mo gi ut uv hgh cu de br th ot nm on yk ya yh yo yr y1 y2 fi ev it iv ph fr mi aT ed bt bv oT oV pa
  rintro ⟨p, wt, op', iw, Y, R, T, rmn, g, s, A, B, C, D, E, F, G⟩ J
  have hT : T ≤ 24 := by have := (pw_sum A.1 (Nat.le_refl T)).1; have := B.2.2.2.2; omega
  by_cases h0 : v1 < 0
  · exact br_t h0 (br_t h0 ⟨rfl, J⟩)
  · obtain ⟨j, hj, rfl⟩ := nI_of h0
    by_cases hjT : j < T
    · have cl : (nI j).toNatClampNeg = j := nI_clamp hj
      have hi : vp_in (nI j) 32 := vp_in_nI (by omega) (by omega)
      refine br_f h0 (br_f (by rw [B.1]; exact nI_ge hjT (by omega)) ⟨hi, br_f h0 (br_t (by rw [B.2.1]; exact nI_lt hjT (by omega)) ⟨hi, ?_, J⟩)⟩)
      rw [cl, (C.1 j hjT).1, (C.2.2 j hjT).1]
    · exact br_f h0 (br_t (by rw [B.1]; exact nI_le (by omega) hj) (br_f h0 (br_f (by rw [B.2.1]; exact nI_nlt (by omega) hj) ⟨rfl, J⟩)))
theorem i_vc_argAt {k : Nat} {u : SX} {v : SY} (I : i_Rel k u v) (hk : k + 3 ≤ 1537) (v1 : Int32) : wpX_argAt (fun r => wpY_argAt (fun r' => r' = r ∧ i_Rel (k + 3) u v) v v1) u v1 := by
  have J := I
  revert J
  refine zz_el (P := fun u v => i_Rel k u v → wpX_argAt (fun r => wpY_argAt (fun r' => r' = r ∧ i_Rel (k + 3) u v) v v1) u v1) ?_ I
  intro k0 k1 k2 k3 k4 k5 k6 k7 k8 k9 k10 rm tc fc tw ht ft md nd en co vk vl st fe pr nu np nn tg ka ar c1 c2 c3 ro we op cT cN cE cK cV cX gN gE gC gK gV gH gT li to mo gi ut uv hgh cu de br th ot nm on yk ya yh yo yr y1 y2 fi ev it iv ph fr mi aT ed bt bv oT oV pa
  rintro ⟨p, wt, op', iw, Y, R, T, rmn, g, s, A, B, C, D, E, F, G⟩ J
  have hT : T ≤ 24 := by have := (pw_sum A.1 (Nat.le_refl T)).1; have := B.2.2.2.2; omega
  by_cases h0 : v1 < 0
  · exact br_t h0 (br_t h0 ⟨rfl, J⟩)
  · obtain ⟨j, hj, rfl⟩ := nI_of h0
    by_cases hjT : j < T
    · have cl : (nI j).toNatClampNeg = j := nI_clamp hj
      have hi : vp_in (nI j) 32 := vp_in_nI (by omega) (by omega)
      refine br_f h0 (br_f (by rw [B.1]; exact nI_ge hjT (by omega)) ⟨hi, br_f h0 (br_t (by rw [B.2.1]; exact nI_lt hjT (by omega)) ⟨hi, ?_, J⟩)⟩)
      rw [cl, (C.1 j hjT).2.1, (C.2.2 j hjT).2.1]
    · exact br_f h0 (br_t (by rw [B.1]; exact nI_le (by omega) hj) (br_f h0 (br_f (by rw [B.2.1]; exact nI_nlt (by omega) hj) ⟨rfl, J⟩)))
end
section
section
variable {p : PG} {wt op : Nat → Nat} {iw : Nat → Nat → Nat} {Y R : Nat → List Nat} {T : Nat}
theorem pw_mono (h : PW p wt op iw Y R T) : ∀ {j i : Nat}, i ≤ j → j ≤ T → pw_sm wt (R i) ≤ pw_sm wt (R j) := by
  intro j
  induction j with
  | zero => intro i hi _; rw [show i = 0 by omega]; exact Nat.le_refl _
  | succ j ih =>
    intro i hi hj
    by_cases e : i = j + 1
    · rw [e]; exact Nat.le_refl _
    · refine Nat.le_trans (ih (by omega) (by omega)) ?_
      obtain ⟨_, hl, ⟨rest, h1, h2⟩, _, _, _, hw, _⟩ := h.2 j hj
      have g := pw_wt_ge (wt := wt) (op := op) hl
      rw [h1, h2, pw_sm_app, pw_sm_rev, pw_sm, hw]
      omega
theorem pw_b24 (h : PW p wt op iw Y R T) (hs : pw_sm wt (R T) ≤ 24) {i : Nat} (hi : i < T) : wt i ≤ 24 ∧ op i ≤ 24 := by
  obtain ⟨rest, hr⟩ := pw_top h hi
  have h1 := pw_mono h (i := i + 1) (j := T) hi (Nat.le_refl T)
  rw [hr, pw_sm] at h1
  have := pw_opw h hi
  omega
theorem yt_yp {yk ya y1 y2 y1' y2' : Nat → Int32} (yp : yr_p p T yk ya y1 y2) (h12 : yt_12 p T y1' y2') : yr_p p T yk ya y1' y2' := fun i hi => ⟨(yp i hi).1, (yp i hi).2.1, (h12 i hi).1, (h12 i hi).2, (yp i hi).2.2.2.2⟩
end
theorem i_vc_filters {k : Nat} {u : SX} {v : SY} (I : i_Rel k u v) (hk : k + 3 ≤ 1537) : wpX_filters (fun r => wpY_filters (fun r' v' => r' = r ∧ i_Rel (k + 3) u v') v) u := by
  refine zz_el (P := fun u v => wpX_filters (fun r => wpY_filters (fun r' v' => r' = r ∧ i_Rel (k + 3) u v') v) u) ?_ I
  intro k0 k1 k2 k3 k4 k5 k6 k7 k8 k9 k10 rm tc fc tw ht ft md nd en co vk vl st fe pr nu np nn tg ka ar c1 c2 c3 ro we op cT cN cE cK cV cX gN gE gC gK gV gH gT li to mo gi ut uv hgh cu de br th ot nm on yk ya yh yo yr y1 y2 fi ev it iv ph fr mi aT ed bt bv oT oV pa
  rintro ⟨p, wt, op', iw, Y, R, T, rmn, g, s, A, B, C, D, E, F, G⟩
  have hT : T ≤ 24 := by have := (pw_sum A.1 (Nat.le_refl T)).1; have := B.2.2.2.2; omega
  have hs24 : pw_sm wt (R T) ≤ 24 := by have := B.2.2.2.2; omega
  show wpY_filters (fun r' v' => r' = fc ∧ i_Rel (k + 3) (k0, k1, k2, k3, k4, k5, k6, k7, k8, k9, k10, rm, tc, fc, tw, ht, ft, md, nd, en, co, vk, vl, st, fe, pr, nu, np, nn, tg, ka, ar, c1, c2, c3, ro, we, op, cT, cN, cE, cK, cV, cX, gN, gE, gC, gK, gV, gH, gT) v') (li, to, mo, gi, ut, uv, hgh, cu, de, br, th, ot, nm, on, yk, ya, yh, yo, yr, y1, y2, fi, ev, it, iv, ph, fr, mi, aT, ed, bt, bv, oT, oV, pa)
  exact yt_filters A.1 (by omega) (fun i hi => by have := (pw_b24 A.1 hs24 hi).2; omega) (fun i hi => (C.2.2 i hi).1) B.2.1 (fun hgh yh yo yr y1' y2' e hs h12 => ⟨B.2.2.1.symm, p, wt, op', iw, Y, R, T, rmn, g, s, A, B, ⟨C.1, C.2.1, yt_yp C.2.2 h12⟩, D, E, F, G⟩)
theorem i_vc_weight {k : Nat} {u : SX} {v : SY} (I : i_Rel k u v) (hk : k + 3 ≤ 1537) : wpX_weight (fun r => wpY_weight (fun r' v' => r' = r ∧ i_Rel (k + 3) u v') v) u := by
  refine zz_el (P := fun u v => wpX_weight (fun r => wpY_weight (fun r' v' => r' = r ∧ i_Rel (k + 3) u v') v) u) ?_ I
  intro k0 k1 k2 k3 k4 k5 k6 k7 k8 k9 k10 rm tc fc tw ht ft md nd en co vk vl st fe pr nu np nn tg ka ar c1 c2 c3 ro we op cT cN cE cK cV cX gN gE gC gK gV gH gT li to mo gi ut uv hgh cu de br th ot nm on yk ya yh yo yr y1 y2 fi ev it iv ph fr mi aT ed bt bv oT oV pa
  rintro ⟨p, wt, op', iw, Y, R, T, rmn, g, s, A, B, C, D, E, F, G⟩
  have hT : T ≤ 24 := by have := (pw_sum A.1 (Nat.le_refl T)).1; have := B.2.2.2.2; omega
  have hs24 : pw_sm wt (R T) ≤ 24 := by have := B.2.2.2.2; omega
  show wpY_weight (fun r' v' => r' = tw ∧ i_Rel (k + 3) (k0, k1, k2, k3, k4, k5, k6, k7, k8, k9, k10, rm, tc, fc, tw, ht, ft, md, nd, en, co, vk, vl, st, fe, pr, nu, np, nn, tg, ka, ar, c1, c2, c3, ro, we, op, cT, cN, cE, cK, cV, cX, gN, gE, gC, gK, gV, gH, gT) v') (li, to, mo, gi, ut, uv, hgh, cu, de, br, th, ot, nm, on, yk, ya, yh, yo, yr, y1, y2, fi, ev, it, iv, ph, fr, mi, aT, ed, bt, bv, oT, oV, pa)
  exact yt_weight A.1 (by omega) (fun i hi => by have := (pw_b24 A.1 hs24 hi).2; omega) (fun i hi => (C.2.2 i hi).1) B.2.1 (fun hgh yh yo yr y1' y2' e hs h12 => ⟨B.2.2.2.1.symm, p, wt, op', iw, Y, R, T, rmn, g, s, A, B, ⟨C.1, C.2.1, yt_yp C.2.2 h12⟩, D, E, F, G⟩)
section
variable {k0 k1 k2 k3 k4 k5 k6 k7 k8 k9 k10 rm tc fc tw ht ft md nd en co vk vl st fe : Int32} {pr nu np nn tg ka ar c1 c2 c3 ro we op cT cN cE cK cV cX gN gE gC gK gV gH gT : Nat → Int32}
theorem xt_disp {post : Int32 → SX → Prop} {k : Nat} {arg : Int32} (hk : k ≤ 17) (Hb : (k = 1 ∨ k = 4 ∨ k = 13) → (arg < 0 ∨ 2 < arg) → post 2 (k0, k1, k2, k3, k4, k5, k6, k7, k8, k9, k10, rm, tc, fc, tw, ht, ft, md, nd, en, co, vk, vl, st, fe, pr, nu, np, nn, tg, ka, ar, c1, c2, c3, ro, we, op, cT, cN, cE, cK, cV, cX, gN, gE, gC, gK, gV, gH, gT)) (H1 : (k = 1 ∨ k = 4 ∨ k = 13) → ¬ arg < 0 → ¬ 2 < arg → wX_token_49 post (nI k) arg 1 k0 k1 k2 k3 k4 k5 k6 k7 k8 k9 k10 rm tc fc tw ht ft md nd en co vk vl st fe pr nu np nn tg ka ar c1 c2 c3 ro we op cT cN cE cK cV cX gN gE gC gK gV gH gT) (H0 : ¬ (k = 1 ∨ k = 4 ∨ k = 13) → wX_token_49 post (nI k) arg 0 k0 k1 k2 k3 k4 k5 k6 k7 k8 k9 k10 rm tc fc tw ht ft md nd en co vk vl st fe pr nu np nn tg ka ar c1 c2 c3 ro we op cT cN cE cK cV cX gN gE gC gK gV gH gT) : wpX_token post (k0, k1, k2, k3, k4, k5, k6, k7, k8, k9, k10, rm, tc, fc, tw, ht, ft, md, nd, en, co, vk, vl, st, fe, pr, nu, np, nn, tg, ka, ar, c1, c2, c3, ro, we, op, cT, cN, cE, cK, cV, cX, gN, gE, gC, gK, gV, gH, gT) (nI k) arg := by
  have g28 : (k = 1 ∨ k = 4 ∨ k = 13) → wX_token_28 post (nI k) arg k0 k1 k2 k3 k4 k5 k6 k7 k8 k9 k10 rm tc fc tw ht ft md nd en co vk vl st fe pr nu np nn tg ka ar c1 c2 c3 ro we op cT cN cE cK cV cX gN gE gC gK gV gH gT := by
    intro hn
    refine br_f (by decide) (br_c (fun h => Hb hn (Or.inl h)) (fun h => br_c (fun h2 => H1 hn h (Int32.not_lt.mpr h2)) (fun h2 => Hb hn (Or.inr (Int32.not_le.mp h2)))))
  refine br_f (nI_pos (by omega)) (br_t (nI_le (b := 17) hk (by decide)) ?_)
  by_cases h1 : k = 1
  · exact br_t (by rw [h1]; rfl) (g28 (Or.inl h1))
  · refine br_f (pb_ne (b := 1) (by omega) (by decide) h1) ?_
    by_cases h4 : k = 4
    · exact br_t (by rw [h4]; rfl) (g28 (Or.inr (Or.inl h4)))
    · refine br_f (pb_ne (b := 4) (by omega) (by decide) h4) ?_
      by_cases h13 : k = 13
      · exact br_t (by rw [h13]; rfl) (g28 (Or.inr (Or.inr h13)))
      · exact br_f (pb_ne (b := 13) (by omega) (by decide) h13) (br_t rfl (H0 (by omega)))
end
section
variable {li to mo gi ut uv hgh cu de br : Int32} {th ot nm on yk ya yh yo yr y1 y2 fi ev it iv ph fr mi aT ed bt bv oT oV pa : Nat → Int32}
theorem yt_disp {post : Int32 → SY → Prop} {k : Nat} {arg : Int32} (hk : k ≤ 17) (Hb : (k = 1 ∨ k = 4 ∨ k = 13) → (arg < 0 ∨ 2 < arg) → post 2 (li, to, mo, gi, ut, uv, hgh, cu, de, br, th, ot, nm, on, yk, ya, yh, yo, yr, y1, y2, fi, ev, it, iv, ph, fr, mi, aT, ed, bt, bv, oT, oV, pa)) (H1 : (k = 1 ∨ k = 4 ∨ k = 13) → ¬ arg < 0 → ¬ 2 < arg → wY_token_49 post (nI k) arg 1 li to mo gi ut uv hgh cu de br th ot nm on yk ya yh yo yr y1 y2 fi ev it iv ph fr mi aT ed bt bv oT oV pa) (H0 : ¬ (k = 1 ∨ k = 4 ∨ k = 13) → wY_token_49 post (nI k) arg 0 li to mo gi ut uv hgh cu de br th ot nm on yk ya yh yo yr y1 y2 fi ev it iv ph fr mi aT ed bt bv oT oV pa) : wpY_token post (li, to, mo, gi, ut, uv, hgh, cu, de, br, th, ot, nm, on, yk, ya, yh, yo, yr, y1, y2, fi, ev, it, iv, ph, fr, mi, aT, ed, bt, bv, oT, oV, pa) (nI k) arg := by
  have g28 : (k = 1 ∨ k = 4 ∨ k = 13) → wY_token_28 post (nI k) arg li to mo gi ut uv hgh cu de br th ot nm on yk ya yh yo yr y1 y2 fi ev it iv ph fr mi aT ed bt bv oT oV pa := by
    intro hn
    refine br_f (by decide) (br_c (fun h => Hb hn (Or.inl h)) (fun h => br_c (fun h2 => H1 hn h (Int32.not_lt.mpr h2)) (fun h2 => Hb hn (Or.inr (Int32.not_le.mp h2)))))
  refine br_f (nI_pos (by omega)) (br_t (nI_le (b := 17) hk (by decide)) ?_)
  by_cases h1 : k = 1
  · exact br_t (by rw [h1]; rfl) (g28 (Or.inl h1))
  · refine br_f (pb_ne (b := 1) (by omega) (by decide) h1) ?_
    by_cases h4 : k = 4
    · exact br_t (by rw [h4]; rfl) (g28 (Or.inr (Or.inl h4)))
    · refine br_f (pb_ne (b := 4) (by omega) (by decide) h4) ?_
      by_cases h13 : k = 13
      · exact br_t (by rw [h13]; rfl) (g28 (Or.inr (Or.inr h13)))
      · exact br_f (pb_ne (b := 13) (by omega) (by decide) h13) (br_t rfl (H0 (by omega)))
variable {p : PG} {wt op : Nat → Nat} {iw : Nat → Nat → Nat} {Yy Rr : Nat → List Nat} {T : Nat} {post : Int32 → SY → Prop}
/-- the reference's token, its kind and argument being good: too few operands -/
theorem yt_49m {k : Nat} {arg fl : Int32} (h : PW p wt op iw Yy Rr T) (hT : T ≤ 24) (hs24 : pw_sm wt (Rr T) ≤ 24) (yp : yr_p p T yk ya y1 y2) (hto : to = nI T) (hk : k ≤ 17) (hL : (Rr T).length < pw_ops k)
    (H : ∀ hgh yh yo yr y1 y2, yr_p p T yk ya y1 y2 → post 3 (li, to, mo, gi, ut, uv, hgh, cu, de, br, th, ot, nm, on, yk, ya, yh, yo, yr, y1, y2, fi, ev, it, iv, ph, fr, mi, aT, ed, bt, bv, oT, oV, pa)) : wY_token_49 post (nI k) arg fl li to mo gi ut uv hgh cu de br th ot nm on yk ya yh yo yr y1 y2 fi ev it iv ph fr mi aT ed bt bv oT oV pa := by
  have h3 : pw_ops k ≤ 3 := by unfold pw_ops; repeat' split
                               all_goals omega
  exact yt_filters h (by omega) (fun i hi => by have := (pw_b24 h hs24 hi).2; omega) (fun i hi => (yp i hi).1) hto (fun hgh yh yo yr y1 y2 e hs h12 => yt_operands hk (br_f (nI_ge hL (by omega)) (H hgh yh yo yr y1 y2 (yt_yp yp h12))))
theorem yt_49n {k rmn : Nat} {arg fl : Int32} {ys rest : List Nat} (h : PW p wt op iw Yy Rr T) (hT : T ≤ 24) (hs24 : pw_sm wt (Rr T) ≤ 24) (yp : yr_p p T yk ya y1 y2) (hto : to = nI T) (hli : li = nI rmn) (hrm : rmn ≤ 24) (hk : k ≤ 17) (hl : ys.length = pw_ops k) (hR : Rr T = ys.reverse ++ rest) (ha : pw_ar k (if fl = 1 ∨ k = 3 then arg else 0)) (hfl : fl = 0 ∨ fl = 1) (hw : pw_sm wt rest + pw_wt wt op k ys < 100000)
    (H4 : rmn < pw_sm wt rest + pw_wt wt op k ys → ∀ hgh yh yo yr yk ya y1 y2, yr_p p T yk ya y1 y2 → post 4 (li, to, mo, gi, ut, uv, hgh, cu, de, br, th, ot, nm, on, yk, ya, yh, yo, yr, y1, y2, fi, ev, it, iv, ph, fr, mi, aT, ed, bt, bv, oT, oV, pa))
    (H0 : pw_sm wt rest + pw_wt wt op k ys ≤ rmn → ∀ hgh yh yo yr yk ya y1 y2, yr_p (pw_p p T k (if fl = 1 ∨ k = 3 then arg else 0) ys) (T + 1) yk ya y1 y2 → post 0 (li, nI (T + 1), 0, 0, ut, uv, hgh, cu, de, br, th, ot, nm, on, yk, ya, yh, yo, yr, y1, y2, fi, ev, it, iv, ph, fr, mi, aT, ed, bt, bv, oT, oV, pa)) : wY_token_49 post (nI k) arg fl li to mo gi ut uv hgh cu de br th ot nm on yk ya yh yo yr y1 y2 fi ev it iv ph fr mi aT ed bt bv oT oV pa := by
  have hext := pw_ext (a := if fl = 1 ∨ k = 3 then arg else 0) h hR hl hk ha
  have hys : ∀ y, y ∈ ys → y < T := fun y hy => pw_lt h (Nat.le_refl T) y (by rw [hR]; exact List.mem_append_left _ (List.mem_reverse.mpr hy))
  have hrs : ∀ y, y ∈ rest → y < T := fun y hy => pw_lt h (Nat.le_refl T) y (by rw [hR]; exact List.mem_append_right _ hy)
  have hop : pw_op op k ys < 1000 := by
    unfold pw_op
    by_cases h14 : k = 14
    · rw [if_pos h14]
      obtain ⟨a, b, rfl⟩ := (pw_len hl).2.2.1 (by omega) (by omega)
      have h1 := (pw_b24 h hs24 (hys a (by simp))).2
      have h2 := (pw_b24 h hs24 (hys b (by simp))).2
      have h3 := Nat.mul_le_mul h1 h2
      show op a * op b < 1000
      omega
    · rw [if_neg h14]
      have h1 : ∀ l : List Nat, (∀ y, y ∈ l → op y ≤ 24) → pw_sm op l ≤ 24 * l.length := by
        intro l
        induction l with
        | nil => intro _; exact Nat.le_refl _
        | cons y l ih =>
          intro hh
          have a := hh y List.mem_cons_self
          have b := ih (fun z hz => hh z (List.mem_cons_of_mem _ hz))
          rw [pw_sm, List.length_cons]; omega
      have h2 := h1 ys (fun y hy => (pw_b24 h hs24 (hys y hy)).2)
      have h3 : pw_ops k ≤ 3 := by unfold pw_ops; repeat' split
                                   all_goals omega
      split <;> omega
  have hsum : pw_sm (pw_u wt T (pw_wt wt op k ys)) (pw_u Rr (T + 1) (T :: rest) (T + 1)) = pw_sm wt rest + pw_wt wt op k ys := by
    rw [pw_us, pw_sm, pw_us, pw_sm_c (fun y hy => by have := hrs y hy; exact pw_un (by omega))]; omega
  have cl : (nI T).toNatClampNeg = T := nI_clamp (by omega)
  have hi : vp_in (nI T) 32 := vp_in_nI (by omega) (by omega)
  have hlen : (Rr T).length = rest.length + ys.length := by rw [hR, List.length_append, List.length_reverse, Nat.add_comm]
  have hTT := (pw_sum h (Nat.le_refl T)).2
  subst hto hli
  refine yt_filters h (by omega) (fun i hi => by have := (pw_b24 h hs24 hi).2; omega) (fun i hi => (yp i hi).1) rfl (fun hgh yh yo yr y1 y2 e hs h12 => yt_operands hk (br_t (nI_le (by omega) (by omega)) ⟨hi, nm_r (e' := upd yk T (nI k)) (by rw [cl]) ?_⟩))
  have g95 : ∀ a, a = (if fl = 1 ∨ k = 3 then arg else 0) → wY_token_95 post a (nI T) (nI rmn) (nI T) mo gi ut uv hgh cu de br th ot nm on (upd yk T (nI k)) ya yh yo yr y1 y2 fi ev it iv ph fr mi aT ed bt bv oT oV pa := by
    intro a hae
    refine ⟨hi, nm_r (e' := upd ya T a) (by rw [cl]) ?_⟩
    rw [nI_1]
    refine yt_total (hgh := hgh) hext (by omega) (fun i hi' => ?_) (fun i hi' => ?_) (fun hgh2 yh2 yo2 yr2 y12 y22 e2 hs2 h122 => ?_)
    · by_cases ei : i = T
      · rw [ei, pw_us]; exact hop
      · rw [pw_un ei]; have := (pw_b24 h hs24 (show i < T by omega)).2; omega
    · by_cases ei : i = T
      · rw [ei, pk_us]; exact congrArg nI pw_us.symm
      · rw [pk_un ei, (yp i (by omega)).1]; exact congrArg nI (pw_un ei).symm
    · rw [hsum]
      by_cases hh : pw_sm wt rest + pw_wt wt op k ys ≤ rmn
      · refine br_t (nI_le hh (by omega)) (nm_r (nI_1 T) (H0 hh _ _ _ _ _ _ _ _ (fun i hi' => ?_)))
        refine ⟨?_, ?_, (h122 i hi').1, (h122 i hi').2, fun z => pw_3 hext hi' z⟩
        · by_cases ei : i = T
          · rw [ei, pk_us]; exact congrArg nI pw_us.symm
          · rw [pk_un ei, (yp i (by omega)).1]; exact congrArg nI (pw_un ei).symm
        · by_cases ei : i = T
          · rw [ei, pk_us, hae]; exact pw_us.symm
          · rw [pk_un ei, (yp i (by omega)).2.1]; exact (pw_un ei).symm
      · refine br_f (nI_ge (by omega) (by omega)) (H4 (by omega) _ _ _ _ _ _ _ _ (fun i hi' => ?_))
        have ei : i ≠ T := by omega
        have q := h122 i (by omega)
        have q1 : pg_k (pw_p p T k (if fl = 1 ∨ k = 3 then arg else 0) ys) i = pg_k p i := pw_un ei
        have q2 : pg_1 (pw_p p T k (if fl = 1 ∨ k = 3 then arg else 0) ys) i = pg_1 p i := pw_un ei
        have q3 : pg_2 (pw_p p T k (if fl = 1 ∨ k = 3 then arg else 0) ys) i = pg_2 p i := pw_un ei
        rw [q1, q2, q3] at q
        exact ⟨(pk_un ei).trans (yp i hi').1, (pk_un ei).trans (yp i hi').2.1, q.1, q.2, (yp i hi').2.2.2.2⟩
  rcases hfl with h0 | h1
  · refine br_t h0 ?_
    by_cases hk3 : k = 3
    · exact br_t (by rw [hk3]; rfl) (g95 arg (by rw [if_pos (Or.inr hk3)]))
    · refine br_f (pb_ne (b := 3) (by omega) (by decide) hk3) (g95 0 ?_)
      rw [if_neg]
      rintro (q | q)
      · rw [h0] at q; exact absurd q (by decide)
      · exact hk3 q
  · exact br_f (by rw [h1]; decide) (g95 arg (by rw [if_pos (Or.inl h1)]))
end
end
section
section
variable {k T kk rmn g s : Nat} {v2 fl : Int32} {p : PG} {wt op' : Nat → Nat} {iw : Nat → Nat → Nat} {Y R : Nat → List Nat} {k0 k1 k2 k3 k4 k5 k6 k7 k8 k9 k10 rm tc fc tw ht ft md nd en co vk vl st fe : Int32} {pr nu np nn tg ka ar c1 c2 c3 ro we op cT cN cE cK cV cX gN gE gC gK gV gH gT : Nat → Int32} {li to mo gi ut uv hgh cu de br : Int32} {th ot nm on yk ya yh yo yr y1 y2 fi ev it iv ph fr mi aT ed bt bv oT oV pa : Nat → Int32}
/-- with a good kind and argument: the two sides' tokens from the stack on -/
theorem zz_tok49 (Z : zz_G p wt op' iw Y R T rmn g s rm tc fc tw ht ft md nd en co vk vl st fe pr nu np nn tg ka ar c1 c2 c3 ro we op cT cN cE cK cV cX gN gE gC gK gV gH gT li to mo gi ut uv hgh cu de br th ot nm on yk ya yh yo yr y1 y2 fi ev it iv ph fr mi aT ed bt bv oT oV pa) (hkk : kk ≤ 17) (hfl : fl = 0 ∨ fl = 1) (ha : pw_ar kk (if fl = 1 ∨ kk = 3 then v2 else 0)) {Q : Int32 → SX → (Int32 → SY → Prop) → Prop}
    (HY : ∀ r u' (post : Int32 → SY → Prop), wY_token_49 post (nI kk) v2 fl li to mo gi ut uv hgh cu de br th ot nm on yk ya yh yo yr y1 y2 fi ev it iv ph fr mi aT ed bt bv oT oV pa → Q r u' post) : wX_token_49 (fun r u' => Q r u' (fun r' v' => r' = r ∧ i_Rel (k + 3) u' v')) (nI kk) v2 fl k0 k1 k2 k3 k4 k5 k6 k7 k8 k9 k10 rm tc fc tw ht ft md nd en co vk vl st fe pr nu np nn tg ka ar c1 c2 c3 ro we op cT cN cE cK cV cX gN gE gC gK gV gH gT := by
  obtain ⟨A, B, C, D, E, F, G⟩ := Z
  have hs24 : pw_sm wt (R T) ≤ 24 := by have := B.2.2.2.2; omega
  have hT : T ≤ 24 := by have := (pw_sum A.1 (Nat.le_refl T)).1; omega
  have hTl := (pw_sum A.1 (Nat.le_refl T)).2
  have h3 : pw_ops kk ≤ 3 := by unfold pw_ops; repeat' split
                                all_goals omega
  by_cases hm : (R T).length < pw_ops kk
  · refine xt_49m hkk hm B.2.2.1 (HY 3 _ _ (yt_49m A.1 hT hs24 C.2.2 B.2.1 hkk hm (fun hgh yh yo yr y1' y2' yp' => ⟨rfl, p, wt, op', iw, Y, R, T, rmn, g, s, A, B, ⟨C.1, C.2.1, yp'⟩, D, E, F, G⟩)))
  · obtain ⟨ys, rest, hl, hR⟩ : ∃ (ys rest : List Nat), ys.length = pw_ops kk ∧ R T = ys.reverse ++ rest := by
      refine ⟨((R T).take (pw_ops kk)).reverse, (R T).drop (pw_ops kk), ?_, ?_⟩
      · rw [List.length_reverse, List.length_take]; omega
      · rw [List.reverse_reverse, List.take_append_drop]
    have hlen : (R T).length = rest.length + ys.length := by rw [hR, List.length_append, List.length_reverse, Nat.add_comm]
    have hys : ∀ y, y ∈ ys → y < T := fun y hy => pw_lt A.1 (Nat.le_refl T) y (by rw [hR]; exact List.mem_append_left _ (List.mem_reverse.mpr hy))
    have hrs : ∀ y, y ∈ rest → y < T := fun y hy => pw_lt A.1 (Nat.le_refl T) y (by rw [hR]; exact List.mem_append_right _ hy)
    have hsr : pw_sm wt rest + pw_sm wt ys ≤ 24 := by
      have := hs24
      rw [hR, pw_sm_app, pw_sm_rev] at this
      omega
    have hw : pw_sm wt rest + pw_wt wt op' kk ys < 100000 := by
      have hwt : pw_wt wt op' kk ys ≤ 3 + 25 + 24 * 24 := by
        unfold pw_wt
        split
        · omega
        · split
          · obtain ⟨a, b, rfl⟩ := (pw_len hl).2.2.1 (by omega) (by omega)
            have h1 := pw_b24 A.1 hs24 (hys a (by simp))
            have h2 := pw_b24 A.1 hs24 (hys b (by simp))
            have h4 : pw_mx (op' a) ≤ 24 := by unfold pw_mx; split <;> omega
            have h5 := Nat.mul_le_mul h2.1 h4
            show 1 + wt a + wt b * pw_mx (op' a) ≤ _
            omega
          · omega
      omega
    have hskk : sk_r wt op' ro we op (ys.reverse ++ rest) := by rw [← hR]; exact C.2.1
    have htw : tw = nI (pw_sm wt (ys.reverse ++ rest)) := by rw [← hR]; exact B.2.2.2.1
    have hfc : fc = nI (rest.length + ys.length) := by rw [← hlen]; exact B.2.2.1
    have hrm := A.2.1
    have htc := B.1
    have hpe := pw_ext (a := if fl = 1 ∨ kk = 3 then v2 else 0) A.1 hR hl hkk ha
    subst hrm htc hfc htw
    refine xt_49n hkk hl (fun y hy => by have := (pw_b24 A.1 hs24 (hys y hy)).2; omega) hskk (by omega) (by omega) A.2.2.2.2 hw hfl (fun h4 => ?_) (fun h0 => ?_)
    · refine HY 4 _ _ (yt_49n A.1 hT hs24 C.2.2 B.2.1 A.2.2.1 A.2.2.2.2 hkk hl hR ha hfl hw (fun _ hgh yh yo yr yk ya y1' y2' yp' => ⟨rfl, p, wt, op', iw, Y, R, T, rmn, g, s, A, B, ⟨C.1, C.2.1, yp'⟩, D, E, F, G⟩) (fun q => by omega))
    · refine HY 0 _ _ (yt_49n A.1 hT hs24 C.2.2 B.2.1 A.2.2.1 A.2.2.2.2 hkk hl hR ha hfl hw (fun q => by omega) (fun _ hgh yh yo yr yk ya y1' y2' yp' => ⟨rfl, pw_p p T kk (if fl = 1 ∨ kk = 3 then v2 else 0) ys, pw_u wt T (pw_wt wt op' kk ys), pw_u op' T (pw_op op' kk ys), pw_u iw T (fun q => ps_iwe (pw_p p T kk (if fl = 1 ∨ kk = 3 then v2 else 0) ys) iw T q), pw_u Y T ys, pw_u R (T + 1) (T :: rest), T + 1, rmn, 0, 0, ⟨hpe, rfl, A.2.2.1, A.2.2.2.1, A.2.2.2.2⟩, ?_, ⟨?_, ?_, yp'⟩, D, ⟨rfl, rfl, Nat.zero_le _, rfl, rfl⟩, (fun z => by omega), (fun z => by omega)⟩))
      · have hsum : pw_sm (pw_u wt T (pw_wt wt op' kk ys)) (pw_u R (T + 1) (T :: rest) (T + 1)) = pw_sm wt rest + pw_wt wt op' kk ys := by
          rw [pw_us, pw_sm, pw_us, pw_sm_c (fun y hy => by have := hrs y hy; exact pw_un (by omega))]; omega
        refine ⟨rfl, rfl, ?_, ?_, ?_⟩
        · rw [pw_us, List.length_cons]
        · rw [hsum]
        · rw [hsum]; exact h0
      · intro i hi
        by_cases ei : i = T
        · subst ei
          exact ⟨pk_us.trans (congrArg nI pw_us.symm), pk_us.trans pw_us.symm, fun _ => pk_us.trans (congrArg nI pw_us.symm), fun _ => pk_us.trans (congrArg nI pw_us.symm), fun _ => pk_us.trans (congrArg nI pw_us.symm)⟩
        · have q := C.1 i (by omega)
          have q0 : pg_k (pw_p p T kk (if fl = 1 ∨ kk = 3 then v2 else 0) ys) i = pg_k p i := pw_un ei
          refine ⟨(pk_un ei).trans (q.1.trans (congrArg nI (pw_un ei).symm)), (pk_un ei).trans (q.2.1.trans (pw_un ei).symm), fun z => ?_, fun z => ?_, fun z => ?_⟩
          · rw [q0] at z; exact (pk_un ei).trans ((q.2.2.1 z).trans (congrArg nI (pw_un ei).symm))
          · rw [q0] at z; exact (pk_un ei).trans ((q.2.2.2.1 z).trans (congrArg nI (pw_un ei).symm))
          · rw [q0] at z; exact (pk_un ei).trans ((q.2.2.2.2 z).trans (congrArg nI (pw_un ei).symm))
      · rw [pw_us]
        refine ⟨pk_us, pk_us.trans (congrArg nI pw_us.symm), pk_us.trans (congrArg nI pw_us.symm), sk_c (fun r hr => by have := hrs r hr; exact ⟨pw_un (by omega), pw_un (by omega)⟩) (fun j hj => ⟨pb_u hj, pb_u hj, pb_u hj⟩) (sk_tl hskk)⟩
end
theorem i_vc_token {k : Nat} {u : SX} {v : SY} (I : i_Rel k u v) (hk : k + 3 ≤ 1537) (v1 : Int32) (v2 : Int32) : wpX_token (fun r u' => wpY_token (fun r' v' => r' = r ∧ i_Rel (k + 3) u' v') v v1 v2) u v1 v2 := by
  have J := I
  revert J
  refine zz_el (P := fun u v => i_Rel k u v → wpX_token (fun r u' => wpY_token (fun r' v' => r' = r ∧ i_Rel (k + 3) u' v') v v1 v2) u v1 v2) ?_ I
  intro k0 k1 k2 k3 k4 k5 k6 k7 k8 k9 k10 rm tc fc tw ht ft md nd en co vk vl st fe pr nu np nn tg ka ar c1 c2 c3 ro we op cT cN cE cK cV cX gN gE gC gK gV gH gT li to mo gi ut uv hgh cu de br th ot nm on yk ya yh yo yr y1 y2 fi ev it iv ph fr mi aT ed bt bv oT oV pa
  rintro ⟨p, wt, op', iw, Y, R, T, rmn, g, s, Z⟩ J
  by_cases h0 : v1 < 0
  · exact br_t h0 (br_t h0 ⟨rfl, J⟩)
  · by_cases h17 : v1 ≤ 17
    · obtain ⟨kk, hkk, rfl⟩ := nI_of2 (M := 17) (n := 17) (by decide) h0 h17
      by_cases hn : kk = 1 ∨ kk = 4 ∨ kk = 13
      · by_cases hb : v2 < 0 ∨ 2 < v2
        · exact xt_disp hkk (fun _ _ => yt_disp hkk (fun _ _ => ⟨rfl, J⟩) (fun _ h1 h2 => absurd hb (fun q => q.elim h1 h2)) (fun q => absurd hn q)) (fun _ h1 h2 => absurd hb (fun q => q.elim h1 h2)) (fun q => absurd hn q)
        · refine xt_disp hkk (fun _ q => absurd q hb) (fun _ h1 h2 => ?_) (fun q => absurd hn q)
          refine zz_tok49 (fl := 1) (Q := fun r u' post => wpY_token post (li, to, mo, gi, ut, uv, hgh, cu, de, br, th, ot, nm, on, yk, ya, yh, yo, yr, y1, y2, fi, ev, it, iv, ph, fr, mi, aT, ed, bt, bv, oT, oV, pa) (nI kk) v2) Z hkk (Or.inr rfl) ?_ (fun r u' post h => yt_disp hkk (fun _ q => absurd q hb) (fun _ _ _ => h) (fun q => absurd hn q))
          rw [if_pos (Or.inl rfl)]
          exact ⟨fun _ => ⟨h1, h2⟩, fun _ => h1, fun q => by omega⟩
      · refine xt_disp hkk (fun q => absurd q hn) (fun q => absurd q hn) (fun _ => ?_)
        refine zz_tok49 (fl := 0) (Q := fun r u' post => wpY_token post (li, to, mo, gi, ut, uv, hgh, cu, de, br, th, ot, nm, on, yk, ya, yh, yo, yr, y1, y2, fi, ev, it, iv, ph, fr, mi, aT, ed, bt, bv, oT, oV, pa) (nI kk) v2) Z hkk (Or.inl rfl) ?_ (fun r u' post h => yt_disp hkk (fun q => absurd q hn) (fun q => absurd q hn) (fun _ => h))
        refine ⟨fun q => by omega, fun q => by omega, fun q => ?_⟩
        rw [if_neg]
        rintro (z | z)
        · exact absurd z (by decide)
        · omega
    · exact br_f h0 (br_f h17 (br_f h0 (br_f h17 ⟨rfl, J⟩)))
end
section
def pg_d (p : PG) (P N : Nat → Int32) : PG := (p.1, p.2.1, p.2.2.1, p.2.2.2.1, p.2.2.2.2.1, P, N)
theorem i_vc_put {k : Nat} {u : SX} {v : SY} (I : i_Rel k u v) (hk : k + 3 ≤ 1537) (v1 : Int32) (v2 : Int32) : wpX_put (fun r u' => wpY_put (fun r' v' => r' = r ∧ i_Rel (k + 3) u' v') v v1 v2) u v1 v2 := by
  have J := I
  revert J
  refine zz_el (P := fun u v => i_Rel k u v → wpX_put (fun r u' => wpY_put (fun r' v' => r' = r ∧ i_Rel (k + 3) u' v') v v1 v2) u v1 v2) ?_ I
  intro k0 k1 k2 k3 k4 k5 k6 k7 k8 k9 k10 rm tc fc tw ht ft md nd en co vk vl st fe pr nu np nn tg ka ar c1 c2 c3 ro we op cT cN cE cK cV cX gN gE gC gK gV gH gT li to mo gi ut uv hgh cu de br th ot nm on yk ya yh yo yr y1 y2 fi ev it iv ph fr mi aT ed bt bv oT oV pa
  rintro ⟨p, wt, op', iw, Y, R, T, rmn, g, s, A, B, C, D, E, F, G⟩ J
  by_cases h0 : v1 < 0
  · exact br_t h0 (br_t h0 ⟨rfl, J⟩)
  · by_cases h39 : v1 ≤ 39
    · obtain ⟨q, hq, rfl⟩ := nI_of2 (M := 39) (n := 39) (by decide) h0 h39
      have cl : (nI q).toNatClampNeg = q := nI_clamp (by omega)
      obtain ⟨d1, d2, d3, d4, d5⟩ := D
      subst d1 d2 d3 d4
      refine br_f h0 (br_t h39 ⟨5, xd_raise (n := 4) rfl (by omega) ⟨vp_in_nI (by omega) (by omega), nm_r (e' := upd (pg_n p) q v2) (by rw [cl]) ?_⟩⟩)
      refine br_f h0 (br_t h39 ⟨5, yd_raise (n := 4) (by omega) rfl (by omega) ⟨rfl, ?_⟩⟩)
      exact ⟨pg_d p (dc_ra 4 (pg_p p) q) (upd (pg_n p) q v2), wt, op', iw, Y, R, T, rmn, 0, 0, A, B, C, ⟨rfl, rfl, rfl, rfl, dc_bl_ra d5⟩, ⟨rfl, rfl, Nat.zero_le _, rfl, rfl⟩, (fun z => by omega), (fun z => by omega)⟩
    · exact br_f h0 (br_f h39 (br_f h0 (br_f h39 ⟨rfl, J⟩)))
theorem i_vc_drop {k : Nat} {u : SX} {v : SY} (I : i_Rel k u v) (hk : k + 3 ≤ 1537) (v1 : Int32) : wpX_drop (fun r u' => wpY_drop (fun r' v' => r' = r ∧ i_Rel (k + 3) u' v') v v1) u v1 := by
  have J := I
  revert J
  refine zz_el (P := fun u v => i_Rel k u v → wpX_drop (fun r u' => wpY_drop (fun r' v' => r' = r ∧ i_Rel (k + 3) u' v') v v1) u v1) ?_ I
  intro k0 k1 k2 k3 k4 k5 k6 k7 k8 k9 k10 rm tc fc tw ht ft md nd en co vk vl st fe pr nu np nn tg ka ar c1 c2 c3 ro we op cT cN cE cK cV cX gN gE gC gK gV gH gT li to mo gi ut uv hgh cu de br th ot nm on yk ya yh yo yr y1 y2 fi ev it iv ph fr mi aT ed bt bv oT oV pa
  rintro ⟨p, wt, op', iw, Y, R, T, rmn, g, s, A, B, C, D, E, F, G⟩ J
  by_cases h0 : v1 < 0
  · exact br_t h0 (br_t h0 ⟨rfl, J⟩)
  · by_cases h39 : v1 ≤ 39
    · obtain ⟨q, hq, rfl⟩ := nI_of2 (M := 39) (n := 39) (by decide) h0 h39
      have cl : (nI q).toNatClampNeg = q := nI_clamp (by omega)
      have hi : vp_in (nI q) 40 := vp_in_nI (by omega) (by omega)
      obtain ⟨d1, d2, d3, d4, d5⟩ := D
      subst d1 d2 d3 d4
      refine br_f h0 (br_t h39 ⟨hi, nm_r (e' := pg_p p q) (by rw [cl]) (xd_rmv (by omega) (fun D hD => ⟨pb_bn (d5 q), ?_⟩))⟩)
      refine br_f h0 (br_t h39 ⟨hi, nm_r (e' := pg_p p q) (by rw [cl]) (yd_rmv (by omega) (fun D' hD' => ⟨pb_bn (d5 q), rfl, ?_⟩))⟩)
      have hDD : D' = D := hD'.trans hD.symm
      subst hDD
      exact ⟨pg_d p D'.1 D'.2, wt, op', iw, Y, R, T, rmn, 0, 0, A, B, C, ⟨rfl, rfl, rfl, rfl, by show dc_bl D'.1; rw [hD]; exact dc_bl_rm d5⟩, ⟨rfl, rfl, Nat.zero_le _, rfl, rfl⟩, (fun z => by omega), (fun z => by omega)⟩
    · exact br_f h0 (br_f h39 (br_f h0 (br_f h39 ⟨rfl, J⟩)))
theorem i_vc_run {k : Nat} {u : SX} {v : SY} (I : i_Rel k u v) (hk : k + 3 ≤ 1537) : wpX_run (fun r u' => wpY_run (fun r' v' => r' = r ∧ i_Rel (k + 3) u' v') v) u := by
  have J := I
  revert J
  refine zz_el (P := fun u v => i_Rel k u v → wpX_run (fun r u' => wpY_run (fun r' v' => r' = r ∧ i_Rel (k + 3) u' v') v) u) ?_ I
  intro k0 k1 k2 k3 k4 k5 k6 k7 k8 k9 k10 rm tc fc tw ht ft md nd en co vk vl st fe pr nu np nn tg ka ar c1 c2 c3 ro we op cT cN cE cK cV cX gN gE gC gK gV gH gT li to mo gi ut uv hgh cu de br th ot nm on yk ya yh yo yr y1 y2 fi ev it iv ph fr mi aT ed bt bv oT oV pa
  rintro ⟨p, wt, op', iw, Y, R, T, rmn, g, s, A, B, C, D, E, F, G⟩ J
  have hs24 : pw_sm wt (R T) ≤ 24 := by have := B.2.2.2.2; omega
  have hT : T ≤ 24 := by have := (pw_sum A.1 (Nat.le_refl T)).1; omega
  have hTl := (pw_sum A.1 (Nat.le_refl T)).2
  by_cases h0 : T = 0
  · have hR : R T = [] := by rw [h0]; exact A.1.1
    have ht0 : to ≤ 0 := by rw [B.2.1, h0]; exact Int32.le_refl _
    exact br_t (by rw [B.2.2.1, hR]; rfl) (br_t ht0 (br_t ht0 ⟨rfl, J⟩))
  · obtain ⟨rest, hR⟩ := pw_top A.1 (i := T - 1) (by omega)
    rw [show T - 1 + 1 = T by omega] at hR
    have hfc : fc = nI (rest.length + 1) := by rw [B.2.2.1, hR, List.length_cons]
    have hto : ¬ to ≤ 0 := by rw [B.2.1]; exact nI_nle (by omega) (by omega)
    have hlr : rest.length + 1 ≤ 24 := by rw [hR, List.length_cons] at hTl; omega
    have hro : ro rest.length = nI (T - 1) := by
      have := C.2.1
      rw [hR] at this
      exact this.1
    have cl : (nI rest.length).toNatClampNeg = rest.length := nI_clamp (by omega)
    have hiw : iw (T - 1) 0 ≤ 24 := by
      have h1 := pw_iw A.1 (by omega) (show T - 1 < T by omega) 0
      have h2 := (pw_b24 A.1 hs24 (show T - 1 < T by omega)).1
      omega
    have ok := pw_ok A.1 (by omega)
    refine br_f (by rw [hfc]; exact nI_ne0 (by omega) (by omega)) ⟨by rw [hfc, nI_pred]; exact vp_in_nI (by omega) (by omega), ?_⟩
    have e1 : ro (fc - 1).toNatClampNeg = nI (T - 1) := by rw [hfc, nI_pred, cl, hro]
    rw [e1]
    refine br_f hto (br_f hto ⟨rfl, p, wt, op', iw, Y, R, T, rmn, 0, 1, A, B, C, D, ⟨rfl, rfl, by decide, rfl, rfl⟩, (fun _ => ⟨by omega, Nat.zero_le _, ?_⟩), (fun z => by omega)⟩)
    exact xs_begin ok (by omega) hiw (by omega) 24 hiw
end
section
theorem ps_len24 {p : PG} {iw : Nat → Nat → Nat} {T N f : Nat} {v : PV} (ok : ps_ok p iw T) (hf : f < T) (hw : iw f 0 ≤ 24) : (ps_ev p N f [] v).1.length ≤ 729 := by
  have h1 := ps_ev_len ok N f [] v hf (fun x hx => by cases hx) hw
  have h2 := (tb_c0 (iw f 0) (by omega) (ps_iw_pos ok hf)).2.2.2.1
  exact Nat.le_trans h1 h2
theorem i_vc_next {k : Nat} {u : SX} {v : SY} (I : i_Rel k u v) (hk : k + 3 ≤ 1537) : wpX_next (fun r u' => wpY_next (fun r' v' => r' = r ∧ i_Rel (k + 3) u' v') v) u := by
  have J := I
  revert J
  refine zz_el (P := fun u v => i_Rel k u v → wpX_next (fun r u' => wpY_next (fun r' v' => r' = r ∧ i_Rel (k + 3) u' v') v) u) ?_ I
  intro k0 k1 k2 k3 k4 k5 k6 k7 k8 k9 k10 rm tc fc tw ht ft md nd en co vk vl st fe pr nu np nn tg ka ar c1 c2 c3 ro we op cT cN cE cK cV cX gN gE gC gK gV gH gT li to mo gi ut uv hgh cu de br th ot nm on yk ya yh yo yr y1 y2 fi ev it iv ph fr mi aT ed bt bv oT oV pa
  rintro ⟨p, wt, op', iw, Y, R, T, rmn, g, s, A, B, C, D, E, F, G⟩ J
  have hs24 : pw_sm wt (R T) ≤ 24 := by have := B.2.2.2.2; omega
  have hT : T ≤ 24 := by have := (pw_sum A.1 (Nat.le_refl T)).1; omega
  have hs5 := E.2.2.1
  have hs : ∀ n, n < 5 → (nI s = nI n ↔ s = n) := fun n hn => nI_eq (by omega) (by omega)
  by_cases h0 : s = 0
  · exact br_t (by rw [E.1, h0]; rfl) (br_t (by rw [E.2.1, h0]; rfl) ⟨rfl, J⟩)
  · have hx0 : ¬ st = 0 := by rw [E.1]; exact fun z => h0 ((hs 0 (by omega)).mp z)
    have hy0 : ¬ mo = 0 := by rw [E.2.1]; exact fun z => h0 ((hs 0 (by omega)).mp z)
    by_cases h4 : s = 4
    · have hx4 : st = 4 := by rw [E.1, h4]; rfl
      have hy4 : mo = 4 := by rw [E.2.1, h4]; rfl
      exact br_f hx0 (br_t hx4 (br_f hy0 (br_t hy4 ⟨rfl, J⟩)))
    · have hx4 : ¬ st = 4 := by rw [E.1]; exact fun z => h4 ((hs 4 (by omega)).mp z)
      have hy4 : ¬ mo = 4 := by rw [E.2.1]; exact fun z => h4 ((hs 4 (by omega)).mp z)
      obtain ⟨hT0, hg, XR⟩ := F (by omega)
      have ok := pw_ok A.1 (by omega)
      have hiw : iw (T - 1) 0 ≤ 24 := by
        have h1 := pw_iw A.1 (by omega) (show T - 1 < T by omega) 0
        have h2 := (pw_b24 A.1 hs24 (show T - 1 < T by omega)).1
        omega
      have hlen := ps_len24 (N := 24) (v := (2, nI 0)) ok (show T - 1 < T by omega) hiw
      have hto1 : to - 1 = nI (T - 1) := by rw [B.2.1]; exact pb_m1 (by omega)
      refine br_f hx0 (br_f hx4 (xs_resume ok C.1 D.1 D.2.2.1 XR (fun hl ht ft md nd en co vk vl h g' => ?_) (fun o os hl ho ht ft nd en co h g' XR' => ?_)))
      · have hgl : g = (ps_ev p 24 (T - 1) [] (2, nI 0)).1.length := by
          have := List.drop_eq_nil_iff.mp hl; omega
        refine br_t rfl (br_f hy0 (br_f hy4 ?_))
        rw [hto1]
        refine ys_evaluate (N := 24) (j := 0) ok C.2.2 (pw_ars A.1) D.2.1 D.2.2.2.1 (by omega) hiw hiw (by omega) (fun s' hc hsg => ?_)
        refine br_f (by rw [hc, E.2.2.2.2, ← hgl]; exact nI_nlt (Nat.le_refl _) (by omega)) ⟨rfl, p, wt, op', iw, Y, R, T, rmn, g, 4, A, B, C, D, ⟨rfl, rfl, by decide, E.2.2.2.1, E.2.2.2.2⟩, (fun z => by omega), (fun z => by omega)⟩
      · have hgl : g < (ps_ev p 24 (T - 1) [] (2, nI 0)).1.length := by
          rcases Nat.lt_or_ge g (ps_ev p 24 (T - 1) [] (2, nI 0)).1.length with q | q
          · exact q
          · rw [List.drop_eq_nil_iff.mpr q] at hl; cases hl
        have hsplit : (ps_ev p 24 (T - 1) [] (2, nI 0)).1 = (ps_ev p 24 (T - 1) [] (2, nI 0)).1.take g ++ o :: os := by rw [← hl, List.take_append_drop]
        have htl : ((ps_ev p 24 (T - 1) [] (2, nI 0)).1.take g).length = g := by rw [List.length_take]; omega
        have hdr : (ps_ev p 24 (T - 1) [] (2, nI 0)).1.drop (g + 1) = os := by
          rw [← List.drop_drop, hl]; rfl
        have hfe : fe + 1 = nI (g + 1) := by rw [E.2.2.2.1, nI_1]
        have hgi : gi + 1 = nI (g + 1) := by rw [E.2.2.2.2, nI_1]
        have clg : (nI g).toNatClampNeg = g := nI_clamp (by omega)
        have hig : vp_in gi 8192 := by rw [E.2.2.2.2]; exact vp_in_nI (by omega) (by omega)
        have fin : ∀ sn : Nat, (sn = 2 ∨ sn = 3) → ∀ s' : YM, zz_P rm tc fc tw ht ft 3 nd en co o.1 o.2 (nI sn) (nI (g + 1)) pr nu np nn tg ka ar c1 c2 c3 ro we op h.1 h.2.1 h.2.2.1 h.2.2.2.1 h.2.2.2.2.1 h.2.2.2.2.2 g'.1 g'.2.1 g'.2.2.1 g'.2.2.2.1 g'.2.2.2.2.1 g'.2.2.2.2.2.1 g'.2.2.2.2.2.2 li to (nI sn) (nI (g + 1)) o.1 o.2 hgh (y_cu s') (y_de s') (y_br s') th ot nm on yk ya yh yo yr y1 y2 (y_fi s') (y_ev s') (y_it s') (y_iv s') (y_ph s') (y_fr s') (y_mi s') (y_aT s') (y_ed s') (y_bt s') (y_bv s') (y_oT s') (y_oV s') pa := by
          intro sn hsn s'
          exact ⟨p, wt, op', iw, Y, R, T, rmn, g + 1, sn, A, B, C, D, ⟨rfl, rfl, by omega, rfl, rfl⟩, (fun _ => ⟨hT0, by omega, by rw [hdr]; exact XR'⟩), (fun _ => ⟨rfl, rfl, ho⟩)⟩
        refine br_f (by decide) (nm_r hfe ?_)
        have hyy : ∀ (r : Int32) (u' : SX) (sn : Nat), (sn = 2 ∨ sn = 3) → (sn = 2 ↔ o.1 = 2) → (∀ s', zz_P rm tc fc tw ht ft 3 nd en co o.1 o.2 (nI sn) (nI (g + 1)) pr nu np nn tg ka ar c1 c2 c3 ro we op h.1 h.2.1 h.2.2.1 h.2.2.2.1 h.2.2.2.2.1 h.2.2.2.2.2 g'.1 g'.2.1 g'.2.2.1 g'.2.2.2.1 g'.2.2.2.2.1 g'.2.2.2.2.2.1 g'.2.2.2.2.2.2 li to (nI sn) (nI (g + 1)) o.1 o.2 hgh (y_cu s') (y_de s') (y_br s') th ot nm on yk ya yh yo yr y1 y2 (y_fi s') (y_ev s') (y_it s') (y_iv s') (y_ph s') (y_fr s') (y_mi s') (y_aT s') (y_ed s') (y_bt s') (y_bv s') (y_oT s') (y_oV s') pa) → wpY_next (fun r' v' => r' = 1 ∧ i_Rel (k + 3) (k0, k1, k2, k3, k4, k5, k6, k7, k8, k9, k10, rm, tc, fc, tw, ht, ft, 3, nd, en, co, o.1, o.2, nI sn, nI (g + 1), pr, nu, np, nn, tg, ka, ar, c1, c2, c3, ro, we, op, h.1, h.2.1, h.2.2.1, h.2.2.2.1, h.2.2.2.2.1, h.2.2.2.2.2, g'.1, g'.2.1, g'.2.2.1, g'.2.2.2.1, g'.2.2.2.2.1, g'.2.2.2.2.2.1, g'.2.2.2.2.2.2) v') (li, to, mo, gi, ut, uv, hgh, cu, de, br, th, ot, nm, on, yk, ya, yh, yo, yr, y1, y2, fi, ev, it, iv, ph, fr, mi, aT, ed, bt, bv, oT, oV, pa) := by
          intro r u' sn hsn hiff hz
          refine br_f hy0 (br_f hy4 ?_)
          rw [hto1]
          refine ys_evaluate (N := 24) (j := 0) ok C.2.2 (pw_ars A.1) D.2.1 D.2.2.2.1 (by omega) hiw hiw (by omega) (fun s' hc hsg => ?_)
          have hget := yr_sg_get (n := 0) (a := (ps_ev p 24 (T - 1) [] (2, nI 0)).1.take g) (o := o) (b := os) (by rw [← hsplit]; exact hsg)
          rw [htl, Nat.zero_add] at hget
          refine br_t (by rw [hc, E.2.2.2.2]; exact nI_lt hgl (by omega)) ⟨hig, nm_r (e' := o.1) (by rw [E.2.2.2.2, clg]; exact hget.1) ⟨hig, nm_r (e' := o.2) (by rw [E.2.2.2.2, clg]; exact hget.2) (nm_r hgi ?_)⟩⟩
          by_cases h2 : o.1 = 2
          · have e2 := hiff.mpr h2
            subst e2
            exact br_t h2 ⟨rfl, hz s'⟩
          · have e3 : sn = 3 := hsn.resolve_left (fun q => h2 (hiff.mp q))
            subst e3
            exact br_f h2 ⟨rfl, hz s'⟩
        by_cases h2 : o.1 = 2
        · exact br_t h2 (hyy 0 (k0, k1, k2, k3, k4, k5, k6, k7, k8, k9, k10, rm, tc, fc, tw, ht, ft, md, nd, en, co, vk, vl, st, fe, pr, nu, np, nn, tg, ka, ar, c1, c2, c3, ro, we, op, cT, cN, cE, cK, cV, cX, gN, gE, gC, gK, gV, gH, gT) 2 (Or.inl rfl) ⟨fun _ => h2, fun _ => rfl⟩ (fin 2 (Or.inl rfl)))
        · exact br_f h2 (hyy 0 (k0, k1, k2, k3, k4, k5, k6, k7, k8, k9, k10, rm, tc, fc, tw, ht, ft, md, nd, en, co, vk, vl, st, fe, pr, nu, np, nn, tg, ka, ar, c1, c2, c3, ro, we, op, cT, cN, cE, cK, cV, cX, gN, gE, gC, gK, gV, gH, gT) 3 (Or.inr rfl) ⟨fun q => by omega, fun q => absurd q h2⟩ (fin 3 (Or.inr rfl)))
end
section
section
variable {li to mo gi ut uv hgh cu de br : Int32} {th ot nm on yk ya yh yo yr y1 y2 fi ev it iv ph fr mi aT ed bt bv oT oV pa : Nat → Int32}
theorem yd_underA {post : Int32 → Prop} {x y : Int32} (H : ∀ z, post z) : wpY_under post (li, to, mo, gi, ut, uv, hgh, cu, de, br, th, ot, nm, on, yk, ya, yh, yo, yr, y1, y2, fi, ev, it, iv, ph, fr, mi, aT, ed, bt, bv, oT, oV, pa) x y :=
  br_c (fun _ => H _) (fun _ => br_c (fun _ => br_c (fun _ => H _) (fun _ => H _)) (fun _ => H _))
end
section
variable {k T rmn g s : Nat} {v1 v2 : Int32} {p : PG} {wt op' : Nat → Nat} {iw : Nat → Nat → Nat} {Y R : Nat → List Nat} {k0 k1 k2 k3 k4 k5 k6 k7 k8 k9 k10 rm tc fc tw ht ft md nd en co vk vl st fe : Int32} {pr nu np nn tg ka ar c1 c2 c3 ro we op cT cN cE cK cV cX gN gE gC gK gV gH gT : Nat → Int32} {li to mo gi ut uv hgh cu de br : Int32} {th ot nm on yk ya yh yo yr y1 y2 fi ev it iv ph fr mi aT ed bt bv oT oV pa : Nat → Int32}
/-- has: one answer, and when it isn't 0 what is there -/
theorem zz_has (Z : zz_G p wt op' iw Y R T rmn g s rm tc fc tw ht ft md nd en co vk vl st fe pr nu np nn tg ka ar c1 c2 c3 ro we op cT cN cE cK cV cX gN gE gC gK gV gH gT li to mo gi ut uv hgh cu de br th ot nm on yk ya yh yo yr y1 y2 fi ev it iv ph fr mi aT ed bt bv oT oV pa) (v1 v2 : Int32) : ∃ h : Int32, (∀ post : Int32 → Prop, post h → wpX_has post (k0, k1, k2, k3, k4, k5, k6, k7, k8, k9, k10, rm, tc, fc, tw, ht, ft, md, nd, en, co, vk, vl, st, fe, pr, nu, np, nn, tg, ka, ar, c1, c2, c3, ro, we, op, cT, cN, cE, cK, cV, cX, gN, gE, gC, gK, gV, gH, gT) v1 v2) ∧ (∀ post : Int32 → Prop, post h → wpY_has post (li, to, mo, gi, ut, uv, hgh, cu, de, br, th, ot, nm, on, yk, ya, yh, yo, yr, y1, y2, fi, ev, it, iv, ph, fr, mi, aT, ed, bt, bv, oT, oV, pa) v1 v2) ∧ (h ≠ 0 → ∃ j, j < 40 ∧ v2 = nI j ∧ (v1 = 0 ∨ (v1 = 1 ∧ ut = vk ∧ uv = vl ∧ (vk = 0 ∨ (vk ≠ 0 ∧ ∃ x, x < 40 ∧ vl = nI x ∧ dc_be x j < 40))))) := by
  obtain ⟨A, B, C, D, E, F, G⟩ := Z
  obtain ⟨d1, d2, d3, d4, d5⟩ := D
  subst d1 d2 d3 d4
  have hs5 := E.2.2.1
  have hs : ∀ n, n < 5 → (nI s = nI n ↔ s = n) := fun n hn => nI_eq (by omega) (by omega)
  by_cases h0 : v2 < 0
  · exact ⟨0, fun post hp => br_t h0 hp, fun post hp => br_t h0 hp, fun z => absurd rfl z⟩
  · by_cases h39 : v2 ≤ 39
    · obtain ⟨j, hj, rfl⟩ := nI_of2 (M := 39) (n := 39) (by decide) h0 h39
      have cl : (nI j).toNatClampNeg = j := nI_clamp (by omega)
      have hi : vp_in (nI j) 40 := vp_in_nI (by omega) (by omega)
      have h39' : ¬ (39 : Int32) < nI j := Int32.not_lt.mpr h39
      by_cases hd : v1 = 0
      · subst hd
        refine ⟨pg_p p j, fun post hp => br_f h0 (br_t h39 (br_t rfl ⟨hi, by rw [cl]; exact pb_bn (d5 j), by rw [cl]; exact hp⟩)), fun post hp => br_f h0 (br_f h39' (br_f (by decide) (yd_underA (fun z => br_t rfl ⟨hi, by rw [cl]; exact pb_bn (d5 j), by rw [cl]; exact hp⟩)))), fun _ => ⟨j, by omega, rfl, Or.inl rfl⟩⟩
      · by_cases h1 : v1 = 1
        · subst h1
          by_cases hon : s = 2 ∨ s = 3
          · obtain ⟨g1, g2, g3⟩ := G hon
            have onX : ∀ post : Int32 → Prop, wX_has_46 post (nI j) k0 k1 k2 k3 k4 k5 k6 k7 k8 k9 k10 rm tc fc tw ht ft md nd en co vk vl st fe (pg_p p) (pg_n p) np nn tg ka ar c1 c2 c3 ro we op cT cN cE cK cV cX gN gE gC gK gV gH gT → wpX_has post (k0, k1, k2, k3, k4, k5, k6, k7, k8, k9, k10, rm, tc, fc, tw, ht, ft, md, nd, en, co, vk, vl, st, fe, pg_p p, pg_n p, np, nn, tg, ka, ar, c1, c2, c3, ro, we, op, cT, cN, cE, cK, cV, cX, gN, gE, gC, gK, gV, gH, gT) 1 (nI j) := by
              intro post h
              refine br_f h0 (br_t h39 (br_f (by decide) (br_t rfl ?_)))
              rcases hon with q | q
              · exact br_t (by rw [E.1, q]; rfl) h
              · exact br_f (by rw [E.1, q]; decide) (br_t (by rw [E.1, q]; rfl) h)
            have onY : ∀ post : Int32 → Prop, wY_has_33 post 1 (nI j) li to mo gi ut uv hgh cu de br (pg_p p) ot (pg_n p) on yk ya yh yo yr y1 y2 fi ev it iv ph fr mi aT ed bt bv oT oV pa → wpY_has post (li, to, mo, gi, ut, uv, hgh, cu, de, br, pg_p p, ot, pg_n p, on, yk, ya, yh, yo, yr, y1, y2, fi, ev, it, iv, ph, fr, mi, aT, ed, bt, bv, oT, oV, pa) 1 (nI j) := by
              intro post h
              refine br_f h0 (br_f h39' (br_t rfl ?_))
              rcases hon with q | q
              · exact br_t (by rw [E.2.1, q]; rfl) h
              · exact br_f (by rw [E.2.1, q]; decide) (br_t (by rw [E.2.1, q]; rfl) h)
            by_cases hv0 : vk = 0
            · have hu0 : ut = 0 := g1.trans hv0
              by_cases hj0 : j = 0
              · refine ⟨1, fun post hp => onX post (br_t hv0 (br_t (by rw [hj0]; rfl) hp)), fun post hp => onY post (yd_underA (fun z => br_f (by decide) (br_t rfl (br_t hu0 (br_t (by rw [hj0]; rfl) hp))))), fun _ => ⟨j, by omega, rfl, Or.inr ⟨rfl, g1, g2, Or.inl hv0⟩⟩⟩
              · have hn : ¬ nI j = 0 := nI_ne0 (by omega) (by omega)
                refine ⟨0, fun post hp => onX post (br_t hv0 (br_f hn hp)), fun post hp => onY post (yd_underA (fun z => br_f (by decide) (br_t rfl (br_t hu0 (br_f hn hp))))), fun z => absurd rfl z⟩
            · have hu0 : ¬ ut = 0 := by rw [g1]; exact hv0
              obtain ⟨x, hx, ex⟩ := g3.2 hv0
              dsimp only at ex
              have eu : uv = nI x := g2.trans ex
              have hb := dc_be_b hx (show j < 40 by omega)
              by_cases hbe : dc_be x j < 40
              · have clb : (nI (dc_be x j)).toNatClampNeg = dc_be x j := nI_clamp (by omega)
                have hib : vp_in (nI (dc_be x j)) 40 := vp_in_nI hbe (by omega)
                have bX : ∀ post : Int32 → Prop, ((pg_p p (dc_be x j) = 0 → post 0) ∧ (¬ pg_p p (dc_be x j) = 0 → post 1)) → wX_has_46 post (nI j) k0 k1 k2 k3 k4 k5 k6 k7 k8 k9 k10 rm tc fc tw ht ft md nd en co vk vl st fe (pg_p p) (pg_n p) np nn tg ka ar c1 c2 c3 ro we op cT cN cE cK cV cX gN gE gC gK gV gH gT := by
                  intro post h
                  refine br_f hv0 ?_
                  rw [ex]
                  refine xd_below hx (by omega) (fun _ => br_f (nI_pos (by omega)) ⟨hib, ?_⟩) (fun q => absurd hbe q)
                  rw [clb]; exact h
                have bY : ∀ post : Int32 → Prop, ((pg_p p (dc_be x j) = 0 → post 0) ∧ (¬ pg_p p (dc_be x j) = 0 → post 1)) → wY_has_33 post 1 (nI j) li to mo gi ut uv hgh cu de br (pg_p p) ot (pg_n p) on yk ya yh yo yr y1 y2 fi ev it iv ph fr mi aT ed bt bv oT oV pa := by
                  intro post h
                  unfold wY_has_33
                  rw [eu]
                  refine yd_under (by omega) (br_f (by decide) (br_t rfl (br_f hu0 (br_f (nI_ge (b := 40) hbe (by decide)) ⟨hib, ?_⟩))))
                  rw [clb]; exact h
                by_cases hp0 : pg_p p (dc_be x j) = 0
                · exact ⟨0, fun post hp => onX post (bX post (br_t hp0 hp)), fun post hp => onY post (bY post (br_t hp0 hp)), fun z => absurd rfl z⟩
                · exact ⟨1, fun post hp => onX post (bX post (br_f hp0 hp)), fun post hp => onY post (bY post (br_f hp0 hp)), fun _ => ⟨j, by omega, rfl, Or.inr ⟨rfl, g1, g2, Or.inr ⟨hv0, x, hx, ex, hbe⟩⟩⟩⟩
              · refine ⟨0, fun post hp => onX post (br_f hv0 ?_), fun post hp => onY post ?_, fun z => absurd rfl z⟩
                · rw [ex]
                  exact xd_below hx (by omega) (fun q => absurd q hbe) (fun _ => br_t (by decide) hp)
                · unfold wY_has_33
                  rw [eu]
                  exact yd_under (by omega) (br_f (by decide) (br_t rfl (br_f hu0 (br_t (nI_le (a := 40) (by omega) (by omega)) hp))))
          · have x2 : ¬ st = 2 := by rw [E.1]; exact fun z => hon (Or.inl ((hs 2 (by omega)).mp z))
            have x3 : ¬ st = 3 := by rw [E.1]; exact fun z => hon (Or.inr ((hs 3 (by omega)).mp z))
            have y2' : ¬ mo = 2 := by rw [E.2.1]; exact fun z => hon (Or.inl ((hs 2 (by omega)).mp z))
            have y3' : ¬ mo = 3 := by rw [E.2.1]; exact fun z => hon (Or.inr ((hs 3 (by omega)).mp z))
            exact ⟨0, fun post hp => br_f h0 (br_t h39 (br_f (by decide) (br_t rfl (br_f x2 (br_f x3 hp))))), fun post hp => br_f h0 (br_f h39' (br_t rfl (br_f y2' (br_f y3' hp)))), fun z => absurd rfl z⟩
        · exact ⟨0, fun post hp => br_f h0 (br_t h39 (br_f hd (br_f h1 hp))), fun post hp => br_f h0 (br_f h39' (br_f h1 (yd_underA (fun z => br_f hd (br_f h1 hp))))), fun z => absurd rfl z⟩
    · have h39' : (39 : Int32) < v2 := Int32.not_le.mp h39
      exact ⟨0, fun post hp => br_f h0 (br_f h39 hp), fun post hp => br_f h0 (br_t h39' hp), fun z => absurd rfl z⟩
end
theorem i_vc_has {k : Nat} {u : SX} {v : SY} (I : i_Rel k u v) (hk : k + 3 ≤ 1537) (v1 : Int32) (v2 : Int32) : wpX_has (fun r => wpY_has (fun r' => r' = r ∧ i_Rel (k + 3) u v) v v1 v2) u v1 v2 := by
  have J := I
  revert J
  refine zz_el (P := fun u v => i_Rel k u v → wpX_has (fun r => wpY_has (fun r' => r' = r ∧ i_Rel (k + 3) u v) v v1 v2) u v1 v2) ?_ I
  intro k0 k1 k2 k3 k4 k5 k6 k7 k8 k9 k10 rm tc fc tw ht ft md nd en co vk vl st fe pr nu np nn tg ka ar c1 c2 c3 ro we op cT cN cE cK cV cX gN gE gC gK gV gH gT li to mo gi ut uv hgh cu de br th ot nm on yk ya yh yo yr y1 y2 fi ev it iv ph fr mi aT ed bt bv oT oV pa
  rintro ⟨p, wt, op', iw, Y, R, T, rmn, g, s, Z⟩ J
  obtain ⟨h, hX, hY, _⟩ := zz_has Z v1 v2
  exact hX _ (hY _ ⟨rfl, J⟩)
theorem i_vc_number {k : Nat} {u : SX} {v : SY} (I : i_Rel k u v) (hk : k + 3 ≤ 1537) (v1 : Int32) (v2 : Int32) : wpX_number (fun r => wpY_number (fun r' => r' = r ∧ i_Rel (k + 3) u v) v v1 v2) u v1 v2 := by
  have J := I
  revert J
  refine zz_el (P := fun u v => i_Rel k u v → wpX_number (fun r => wpY_number (fun r' => r' = r ∧ i_Rel (k + 3) u v) v v1 v2) u v1 v2) ?_ I
  intro k0 k1 k2 k3 k4 k5 k6 k7 k8 k9 k10 rm tc fc tw ht ft md nd en co vk vl st fe pr nu np nn tg ka ar c1 c2 c3 ro we op cT cN cE cK cV cX gN gE gC gK gV gH gT li to mo gi ut uv hgh cu de br th ot nm on yk ya yh yo yr y1 y2 fi ev it iv ph fr mi aT ed bt bv oT oV pa
  rintro ⟨p, wt, op', iw, Y, R, T, rmn, g, s, Z⟩ J
  obtain ⟨h, hX, hY, hf⟩ := zz_has (k0 := k0) (k1 := k1) (k2 := k2) (k3 := k3) (k4 := k4) (k5 := k5) (k6 := k6) (k7 := k7) (k8 := k8) (k9 := k9) (k10 := k10) Z v1 v2
  have hN : nu = nm := Z.2.2.2.1.2.2.1.trans Z.2.2.2.1.2.2.2.1.symm
  have y17 : ∀ (post : Int32 → Prop) (z0 : Int32), ((h = 0 → post 0) ∧ (¬ h = 0 → (((v1 = 1 → (((ut = 0 → (post uv)) ∧ (¬ ut = 0 → (vp_in z0 40 ∧ (post (nm z0.toNatClampNeg))))))) ∧ (¬ v1 = 1 → (vp_in z0 40 ∧ (post (nm z0.toNatClampNeg)))))))) → wY_number_17 post v1 v2 z0 li to mo gi ut uv hgh cu de br th ot nm on yk ya yh yo yr y1 y2 fi ev it iv ph fr mi aT ed bt bv oT oV pa := by
    intro post z0 hh
    exact hY _ hh
  unfold wpX_number
  dsimp only
  refine hX _ ?_
  by_cases hz : h = 0
  · refine br_t hz ?_
    refine br_c (fun h1 => y17 _ _ (br_t hz ⟨rfl, J⟩)) (fun h1 => yd_underA (fun z => y17 _ _ (br_t hz ⟨rfl, J⟩)))
  · obtain ⟨j, hj, rfl, hc⟩ := hf hz
    have cl : (nI j).toNatClampNeg = j := nI_clamp (by omega)
    have hi : vp_in (nI j) 40 := vp_in_nI hj (by omega)
    refine br_f hz ?_
    rcases hc with h0 | ⟨h1, gu, gv, hc⟩
    · refine br_t h0 ⟨hi, br_t h0 (y17 _ _ (br_f hz (br_f (by rw [h0]; decide) ⟨hi, by rw [hN], J⟩)))⟩
    · have n0 : ¬ v1 = 0 := by rw [h1]; decide
      refine br_f n0 ?_
      rcases hc with hv0 | ⟨hv0, x, hx, ex, hbe⟩
      · exact br_t hv0 (br_f n0 (yd_underA (fun z => y17 _ _ (br_f hz (br_t h1 (br_t (gu.trans hv0) ⟨gv, J⟩))))))
      · have hu0 : ¬ ut = 0 := by rw [gu]; exact hv0
        have eu : uv = nI x := gv.trans ex
        have clb : (nI (dc_be x j)).toNatClampNeg = dc_be x j := nI_clamp (by omega)
        have hib : vp_in (nI (dc_be x j)) 40 := vp_in_nI hbe (by omega)
        have hyu : ∀ r : Int32, r = nu (dc_be x j) → wpY_number (fun r' => r' = r ∧ i_Rel (k + 3) (k0, k1, k2, k3, k4, k5, k6, k7, k8, k9, k10, rm, tc, fc, tw, ht, ft, md, nd, en, co, vk, vl, st, fe, pr, nu, np, nn, tg, ka, ar, c1, c2, c3, ro, we, op, cT, cN, cE, cK, cV, cX, gN, gE, gC, gK, gV, gH, gT) (li, to, mo, gi, ut, uv, hgh, cu, de, br, th, ot, nm, on, yk, ya, yh, yo, yr, y1, y2, fi, ev, it, iv, ph, fr, mi, aT, ed, bt, bv, oT, oV, pa)) (li, to, mo, gi, ut, uv, hgh, cu, de, br, th, ot, nm, on, yk, ya, yh, yo, yr, y1, y2, fi, ev, it, iv, ph, fr, mi, aT, ed, bt, bv, oT, oV, pa) v1 (nI j) := by
          intro r hr
          refine br_f n0 ?_
          have q : ∀ y, y = nI x → wpY_under (fun r_2 => wY_number_17 (fun r' => r' = r ∧ i_Rel (k + 3) (k0, k1, k2, k3, k4, k5, k6, k7, k8, k9, k10, rm, tc, fc, tw, ht, ft, md, nd, en, co, vk, vl, st, fe, pr, nu, np, nn, tg, ka, ar, c1, c2, c3, ro, we, op, cT, cN, cE, cK, cV, cX, gN, gE, gC, gK, gV, gH, gT) (li, to, mo, gi, ut, uv, hgh, cu, de, br, th, ot, nm, on, yk, ya, yh, yo, yr, y1, y2, fi, ev, it, iv, ph, fr, mi, aT, ed, bt, bv, oT, oV, pa)) v1 (nI j) r_2 li to mo gi ut uv hgh cu de br th ot nm on yk ya yh yo yr y1 y2 fi ev it iv ph fr mi aT ed bt bv oT oV pa) (li, to, mo, gi, ut, uv, hgh, cu, de, br, th, ot, nm, on, yk, ya, yh, yo, yr, y1, y2, fi, ev, it, iv, ph, fr, mi, aT, ed, bt, bv, oT, oV, pa) y (nI j) := by
            intro y hy
            rw [hy]
            exact yd_under hj (y17 _ _ (br_f hz (br_t h1 (br_f hu0 ⟨hib, by rw [clb, hr, hN], J⟩))))
          exact q uv eu
        refine br_f hv0 ?_
        have q : ∀ y, y = nI x → wpX_below (fun r_56 => (((r_56 < 0 → (wpY_number (fun r' => r' = 0 ∧ i_Rel (k + 3) (k0, k1, k2, k3, k4, k5, k6, k7, k8, k9, k10, rm, tc, fc, tw, ht, ft, md, nd, en, co, vk, vl, st, fe, pr, nu, np, nn, tg, ka, ar, c1, c2, c3, ro, we, op, cT, cN, cE, cK, cV, cX, gN, gE, gC, gK, gV, gH, gT) (li, to, mo, gi, ut, uv, hgh, cu, de, br, th, ot, nm, on, yk, ya, yh, yo, yr, y1, y2, fi, ev, it, iv, ph, fr, mi, aT, ed, bt, bv, oT, oV, pa)) (li, to, mo, gi, ut, uv, hgh, cu, de, br, th, ot, nm, on, yk, ya, yh, yo, yr, y1, y2, fi, ev, it, iv, ph, fr, mi, aT, ed, bt, bv, oT, oV, pa) v1 (nI j))) ∧ (¬ r_56 < 0 → (vp_in r_56 40 ∧ (wpY_number (fun r' => r' = nu r_56.toNatClampNeg ∧ i_Rel (k + 3) (k0, k1, k2, k3, k4, k5, k6, k7, k8, k9, k10, rm, tc, fc, tw, ht, ft, md, nd, en, co, vk, vl, st, fe, pr, nu, np, nn, tg, ka, ar, c1, c2, c3, ro, we, op, cT, cN, cE, cK, cV, cX, gN, gE, gC, gK, gV, gH, gT) (li, to, mo, gi, ut, uv, hgh, cu, de, br, th, ot, nm, on, yk, ya, yh, yo, yr, y1, y2, fi, ev, it, iv, ph, fr, mi, aT, ed, bt, bv, oT, oV, pa)) (li, to, mo, gi, ut, uv, hgh, cu, de, br, th, ot, nm, on, yk, ya, yh, yo, yr, y1, y2, fi, ev, it, iv, ph, fr, mi, aT, ed, bt, bv, oT, oV, pa) v1 (nI j))))))) (k0, k1, k2, k3, k4, k5, k6, k7, k8, k9, k10, rm, tc, fc, tw, ht, ft, md, nd, en, co, vk, vl, st, fe, pr, nu, np, nn, tg, ka, ar, c1, c2, c3, ro, we, op, cT, cN, cE, cK, cV, cX, gN, gE, gC, gK, gV, gH, gT) y (nI j) := by
          intro y hy
          rw [hy]
          exact xd_below hx hj (fun _ => br_f (nI_pos (by omega)) ⟨hib, hyu _ (by rw [clb])⟩) (fun z => absurd hbe z)
        exact q vl ex
end
section
/-! ===== update ===== -/
def up_f : List PV → List Int32
  | [] => []
  | o :: os => if o.1 = 2 then o.2 :: up_f os else up_f os
def up_sg (a : Nat → Int32) : Nat → List Int32 → Prop
  | _, [] => True
  | n, q :: qs => a n = q ∧ up_sg a (n + 1) qs
theorem up_sg_ag {a b : Nat → Int32} : ∀ {l : List Int32} {n : Nat}, (∀ j, n ≤ j → j < n + l.length → b j = a j) → up_sg a n l → up_sg b n l
  | [], _, _, _ => trivial
  | q :: l, n, h, ⟨h1, h2⟩ => by
    rw [List.length_cons] at h
    exact ⟨(h n (Nat.le_refl _) (by omega)).trans h1, up_sg_ag (fun j hj hj' => h j (by omega) (by omega)) h2⟩
theorem up_f_len : ∀ {l : List PV}, (up_f l).length ≤ l.length
  | [] => Nat.le_refl _
  | o :: l => by
    have := up_f_len (l := l)
    rw [up_f]; split
    · rw [List.length_cons, List.length_cons]; omega
    · rw [List.length_cons]; omega
theorem up_f_v : ∀ {l : List PV}, (∀ o, o ∈ l → aw_v o) → ∀ q, q ∈ up_f l → ∃ j, j < 40 ∧ q = nI j
  | [], _, q, h => by cases h
  | o :: l, hv, q, h => by
    rw [up_f] at h
    split at h
    · rename_i h2
      rcases List.mem_cons.mp h with rfl | h
      · exact (hv o List.mem_cons_self).2 (by rw [h2]; decide)
      · exact up_f_v (fun z hz => hv z (List.mem_cons_of_mem _ hz)) q h
    · exact up_f_v (fun z hz => hv z (List.mem_cons_of_mem _ hz)) q h
def up_it (p : PG) (f : Nat) : List Int32 → DD → DD
  | [], D => D
  | q :: qs, D => up_it p f qs (dc_rp q.toNatClampNeg D (ps_ev (pg_d p D.1 D.2) 24 f [] (2, q)).1)
theorem up_bl {p : PG} {f : Nat} : ∀ {qs : List Int32} {D : DD}, dc_bl D.1 → dc_bl (up_it p f qs D).1
  | [], _, h => h
  | q :: qs, D, h => by rw [up_it]; exact up_bl (dc_bl_rp h)
section
variable {p : PG} {iw : Nat → Nat → Nat} {T : Nat} {post : Int32 → SX → Prop} {k0 k1 k2 k3 k4 k5 k6 k7 k8 k9 k10 rm tc fc tw ht ft md nd en co vk vl st fe : Int32} {pr nu np nn tg ka ar c1 c2 c3 ro we op cT cN cE cK cV cX gN gE gC gK gV gH gT : Nat → Int32}
theorem xu_loop (ok : ps_ok p iw T) (xp : xr_p p T ka ar c1 c2 c3) (hP : pr = pg_p p) (hN : nu = pg_n p) : ∀ {os : List PV} {o : PV} {x4 m : Nat} {tg : Nat → Int32} {ht ft nd en co : Int32} {h : XH} {g : XF}, xr_R p iw T os ht ft 3 nd en co o.1 o.2 h g → x4 + os.length < 1024 → m ≤ x4 →
    (∀ (tg' : Nat → Int32) (ht ft md nd en co vk vl : Int32) (h : XH) (g : XF), (∀ j, j < m → tg' j = tg j) → up_sg tg' m (up_f (o :: os)) → post (nI (m + (up_f (o :: os)).length)) (k0, k1, k2, k3, k4, k5, k6, k7, k8, k9, k10, rm, tc, fc, tw, ht, ft, md, nd, en, co, vk, vl, st, fe, pr, nu, np, nn, tg', ka, ar, c1, c2, c3, ro, we, op, h.1, h.2.1, h.2.2.1, h.2.2.2.1, h.2.2.2.2.1, h.2.2.2.2.2, g.1, g.2.1, g.2.2.1, g.2.2.2.1, g.2.2.2.2.1, g.2.2.2.2.2.1, g.2.2.2.2.2.2)) →
    wX_listTargets_16 post (os.length + 2) (nI m) 1 (nI x4) k0 k1 k2 k3 k4 k5 k6 k7 k8 k9 k10 rm tc fc tw ht ft 3 nd en co o.1 o.2 st fe pr nu np nn tg ka ar c1 c2 c3 ro we op h.1 h.2.1 h.2.2.1 h.2.2.2.1 h.2.2.2.2.1 h.2.2.2.2.2 g.1 g.2.1 g.2.2.1 g.2.2.2.1 g.2.2.2.2.1 g.2.2.2.2.2.1 g.2.2.2.2.2.2 := by
  intro os
  induction os with
  | nil =>
    intro o x4 m tg ht ft nd en co h g XR hx hm H
    obtain ⟨a1, a2, a3, a4, a5, a6⟩ := h
    obtain ⟨b1, b2, b3, b4, b5, b6, b7⟩ := g
    rw [List.length_nil] at hx
    have nxt : ∀ (m' : Nat) (tg' : Nat → Int32), (∀ (ht ft md nd en co vk vl : Int32) (h : XH) (g : XF), post (nI m') (k0, k1, k2, k3, k4, k5, k6, k7, k8, k9, k10, rm, tc, fc, tw, ht, ft, md, nd, en, co, vk, vl, st, fe, pr, nu, np, nn, tg', ka, ar, c1, c2, c3, ro, we, op, h.1, h.2.1, h.2.2.1, h.2.2.2.1, h.2.2.2.2.1, h.2.2.2.2.2, g.1, g.2.1, g.2.2.1, g.2.2.2.1, g.2.2.2.2.1, g.2.2.2.2.2.1, g.2.2.2.2.2.2)) → wX_listTargets_49 post (wX_listTargets_16 post 1) (nI m') (nI x4) k0 k1 k2 k3 k4 k5 k6 k7 k8 k9 k10 rm tc fc tw ht ft 3 nd en co o.1 o.2 st fe pr nu np nn tg' ka ar c1 c2 c3 ro we op a1 a2 a3 a4 a5 a6 b1 b2 b3 b4 b5 b6 b7 := by
      intro m' tg' hp
      refine xs_resume ok xp hP hN XR (fun _ ht ft md nd en co vk vl h g => nm_r (nI_1 x4) ?_) (fun o' os' hl => by cases hl)
      refine br_c (fun _ => hp _ _ _ _ _ _ _ _ _ _) (fun _ => br_t rfl (hp _ _ _ _ _ _ _ _ _ _))
    refine br_f (nI_ge (b := 1024) (by omega) (by decide)) (br_f (by decide) ?_)
    by_cases h2 : o.1 = 2
    · have cl : (nI m).toNatClampNeg = m := nI_clamp (by omega)
      have hf : up_f [o] = [o.2] := by rw [up_f, if_pos h2]; rfl
      rw [hf] at H
      refine br_t h2 ⟨vp_in_nI (by omega) (by omega), nm_r (e' := upd tg m o.2) (by rw [cl]) (nm_r (nI_1 m) (nxt (m + 1) (upd tg m o.2) (fun ht ft md nd en co vk vl h g => H _ _ _ _ _ _ _ _ _ _ _ (fun j hj => pb_u hj) ⟨pk_us, trivial⟩)))⟩
    · have hf : up_f [o] = [] := by rw [up_f, if_neg h2]; rfl
      rw [hf] at H
      exact br_f h2 (nxt m tg (fun ht ft md nd en co vk vl h g => H _ _ _ _ _ _ _ _ _ _ _ (fun j hj => rfl) trivial))
  | cons o1 os ih =>
    intro o x4 m tg ht ft nd en co h g XR hx hm H
    obtain ⟨a1, a2, a3, a4, a5, a6⟩ := h
    obtain ⟨b1, b2, b3, b4, b5, b6, b7⟩ := g
    rw [List.length_cons] at hx
    have nxt : ∀ (m' : Nat) (tg' : Nat → Int32), m' ≤ x4 + 1 → (∀ (tg'' : Nat → Int32) (ht ft md nd en co vk vl : Int32) (h : XH) (g : XF), (∀ j, j < m' → tg'' j = tg' j) → up_sg tg'' m' (up_f (o1 :: os)) → post (nI (m' + (up_f (o1 :: os)).length)) (k0, k1, k2, k3, k4, k5, k6, k7, k8, k9, k10, rm, tc, fc, tw, ht, ft, md, nd, en, co, vk, vl, st, fe, pr, nu, np, nn, tg'', ka, ar, c1, c2, c3, ro, we, op, h.1, h.2.1, h.2.2.1, h.2.2.2.1, h.2.2.2.2.1, h.2.2.2.2.2, g.1, g.2.1, g.2.2.1, g.2.2.2.1, g.2.2.2.2.1, g.2.2.2.2.2.1, g.2.2.2.2.2.2)) → wX_listTargets_49 post (wX_listTargets_16 post (os.length + 2)) (nI m') (nI x4) k0 k1 k2 k3 k4 k5 k6 k7 k8 k9 k10 rm tc fc tw ht ft 3 nd en co o.1 o.2 st fe pr nu np nn tg' ka ar c1 c2 c3 ro we op a1 a2 a3 a4 a5 a6 b1 b2 b3 b4 b5 b6 b7 := by
      intro m' tg' hm' hp
      refine xs_resume ok xp hP hN XR (fun hl => by cases hl) (fun o' os' hl ho' ht ft nd en co h g XR' => nm_r (nI_1 x4) ?_)
      cases hl
      exact ih XR' (by omega) hm' hp
    refine br_f (nI_ge (b := 1024) (by omega) (by decide)) (br_f (by decide) ?_)
    by_cases h2 : o.1 = 2
    · have cl : (nI m).toNatClampNeg = m := nI_clamp (by omega)
      have hf : up_f (o :: o1 :: os) = o.2 :: up_f (o1 :: os) := by rw [up_f, if_pos h2]
      rw [hf, List.length_cons] at H
      refine br_t h2 ⟨vp_in_nI (by omega) (by omega), nm_r (e' := upd tg m o.2) (by rw [cl]) (nm_r (nI_1 m) (nxt (m + 1) (upd tg m o.2) (by omega) (fun tg'' ht ft md nd en co vk vl h g h1 h3 => ?_)))⟩
      have := H tg'' ht ft md nd en co vk vl h g (fun j hj => (h1 j (by omega)).trans (pb_u hj)) ⟨(h1 m (by omega)).trans pk_us, h3⟩
      rw [show m + ((up_f (o1 :: os)).length + 1) = m + 1 + (up_f (o1 :: os)).length by omega] at this
      exact this
    · have hf : up_f (o :: o1 :: os) = up_f (o1 :: os) := by rw [up_f, if_neg h2]
      rw [hf] at H
      exact br_f h2 (nxt m tg (by omega) H)
/-- listTargets -/
theorem xu_list {f : Nat} (ok : ps_ok p iw T) (xp : xr_p p T ka ar c1 c2 c3) (hP : pr = pg_p p) (hN : nu = pg_n p) (hf : f < T) (hw : iw f 0 ≤ 24)
    (H : ∀ (tg' : Nat → Int32) (ht ft md nd en co vk vl : Int32) (h : XH) (g : XF), up_sg tg' 0 (up_f (ps_ev p 24 f [] (2, nI 0)).1) → post (nI (up_f (ps_ev p 24 f [] (2, nI 0)).1).length) (k0, k1, k2, k3, k4, k5, k6, k7, k8, k9, k10, rm, tc, fc, tw, ht, ft, md, nd, en, co, vk, vl, st, fe, pr, nu, np, nn, tg', ka, ar, c1, c2, c3, ro, we, op, h.1, h.2.1, h.2.2.1, h.2.2.2.1, h.2.2.2.2.1, h.2.2.2.2.2, g.1, g.2.1, g.2.2.1, g.2.2.2.1, g.2.2.2.2.1, g.2.2.2.2.2.1, g.2.2.2.2.2.2)) : wpX_listTargets post (k0, k1, k2, k3, k4, k5, k6, k7, k8, k9, k10, rm, tc, fc, tw, ht, ft, md, nd, en, co, vk, vl, st, fe, pr, nu, np, nn, tg, ka, ar, c1, c2, c3, ro, we, op, cT, cN, cE, cK, cV, cX, gN, gE, gC, gK, gV, gH, gT) (nI f) := by
  have hlen := ps_len24 (N := 24) (v := (2, nI 0)) ok hf hw
  have XR := xs_begin (cT := cT) (cN := cN) (cE := cE) (cK := cK) (cV := cV) (cX := cX) (gN := gN) (gE := gE) (gC := gC) (gK := gK) (gV := gV) (gH := gH) (gT := gT) ok hf hw (j := 0) (by omega) 24 hw
  refine xs_resume ok xp hP hN XR (fun hl ht ft md nd en co vk vl h g => ⟨1, ?_⟩) (fun o os hl ho ht ft nd en co h g XR' => ⟨os.length + 2, ?_⟩)
  · rw [hl] at H
    exact br_f (by decide) (br_t rfl (H tg _ _ _ _ _ _ _ _ _ _ trivial))
  · rw [hl] at H hlen
    rw [List.length_cons] at hlen
    refine xu_loop (x4 := 0) (m := 0) ok xp hP hN XR' (by omega) (Nat.le_refl _) (fun tg' ht ft md nd en co vk vl h g _ h3 => ?_)
    have := H tg' ht ft md nd en co vk vl h g h3
    rw [Nat.zero_add]
    exact this
theorem xu_up {f m : Nat} (ok : ps_ok p iw T) (xp : xr_p p T ka ar c1 c2 c3) (hf : f < T) (hw : iw f 0 ≤ 24) (hm : m ≤ 1024) : ∀ {qs : List Int32} {i : Nat} {D : DD} {np nn : Nat → Int32} {ht ft md nd en co vk vl : Int32} {h : XH} {g : XF}, up_sg tg i qs → (∀ q, q ∈ qs → ∃ j, j < 40 ∧ q = nI j) → i + qs.length = m →
    (∀ (D' : DD) (np nn : Nat → Int32) (ht ft md nd en co vk vl : Int32) (h : XH) (g : XF), D' = up_it p f qs D → post (nI m) (k0, k1, k2, k3, k4, k5, k6, k7, k8, k9, k10, rm, tc, fc, tw, ht, ft, md, nd, en, co, vk, vl, 0, 0, D'.1, D'.2, np, nn, tg, ka, ar, c1, c2, c3, ro, we, op, h.1, h.2.1, h.2.2.1, h.2.2.2.1, h.2.2.2.2.1, h.2.2.2.2.2, g.1, g.2.1, g.2.2.1, g.2.2.2.1, g.2.2.2.2.1, g.2.2.2.2.2.1, g.2.2.2.2.2.2)) →
    wX_update_40 post (nI m) (nI f) (qs.length + 1) (nI i) k0 k1 k2 k3 k4 k5 k6 k7 k8 k9 k10 rm tc fc tw ht ft md nd en co vk vl st fe D.1 D.2 np nn tg ka ar c1 c2 c3 ro we op h.1 h.2.1 h.2.2.1 h.2.2.2.1 h.2.2.2.2.1 h.2.2.2.2.2 g.1 g.2.1 g.2.2.1 g.2.2.2.1 g.2.2.2.2.1 g.2.2.2.2.2.1 g.2.2.2.2.2.2 := by
  intro qs
  induction qs with
  | nil =>
    intro i D np nn ht ft md nd en co vk vl h g hs hv hi H
    have e : i = m := hi
    subst e
    exact br_t (Int32.le_refl _) (H D np nn ht ft md nd en co vk vl h g rfl)
  | cons q qs ih =>
    intro i D np nn ht ft md nd en co vk vl h g hs hv hi H
    rw [List.length_cons] at hi
    obtain ⟨a1, a2, a3, a4, a5, a6⟩ := h
    obtain ⟨b1, b2, b3, b4, b5, b6, b7⟩ := g
    obtain ⟨j, hj, rfl⟩ := hv q List.mem_cons_self
    have cl : (nI i).toNatClampNeg = i := nI_clamp (by omega)
    have clj : (nI j).toNatClampNeg = j := nI_clamp (by omega)
    have hiv : vp_in (nI i) 1024 := vp_in_nI (by omega) (by omega)
    have etg : tg (nI i).toNatClampNeg = nI j := by rw [cl]; exact hs.1
    have okd : ps_ok (pg_d p D.1 D.2) iw T := ok
    have xpd : xr_p (pg_d p D.1 D.2) T ka ar c1 c2 c3 := xp
    have XR := xs_begin (p := pg_d p D.1 D.2) (cT := a1) (cN := a2) (cE := a3) (cK := a4) (cV := a5) (cX := a6) (gN := b1) (gE := b2) (gC := b3) (gK := b4) (gV := b5) (gH := b6) (gT := b7) okd hf hw hj 24 hw
    refine br_f (nI_ge (by omega) (by omega)) ⟨hiv, ?_⟩
    rw [etg]
    refine xs_resume okd xpd rfl rfl XR (fun hl ht ft md nd en co vk vl h g => br_t rfl ⟨hiv, ?_⟩) (fun o os hl ho ht ft nd en co h g XR' => br_f (by decide) ⟨hiv, ?_⟩)
    · rw [etg]
      refine xd_rmv hj (fun D1 hD1 => nm_r (nI_1 i) ?_)
      refine ih (D := D1) hs.2 (fun z hz => hv z (List.mem_cons_of_mem _ hz)) (by omega) (fun D' np nn ht ft md nd en co vk vl h g hD' => H D' np nn ht ft md nd en co vk vl h g ?_)
      rw [up_it, clj, hl, hD', hD1]; rfl
    · rw [etg]
      refine xd_replace (o := o) (l := os) hj ho rfl rfl (fun D1 np nn hD1 => nm_r (nI_1 i) ?_)
      refine ih (D := D1) hs.2 (fun z hz => hv z (List.mem_cons_of_mem _ hz)) (by omega) (fun D' np nn ht ft md nd en co vk vl h g hD' => H D' np nn ht ft md nd en co vk vl h g ?_)
      rw [up_it, clj, hl, hD', hD1]
end
section
variable {p : PG} {iw : Nat → Nat → Nat} {T : Nat} {post : Int32 → SY → Prop} {li to mo gi ut uv hgh cu de br : Int32} {th ot nm on yk ya yh yo yr y1 y2 fi ev it iv ph fr mi aT ed bt bv oT oV pa : Nat → Int32}
theorem yu_30 {C : Nat} (hC : C ≤ 1000) (hcu : cu = nI C) : ∀ {l : List PV} {i m : Nat} {pa : Nat → Int32}, yr_sg oT oV i l → i + l.length = C → m ≤ i →
    (∀ pa' : Nat → Int32, (∀ j, j < m → pa' j = pa j) → up_sg pa' m (up_f l) → ∃ n71, wY_update_71 post (nI (m + (up_f l).length)) n71 0 li to mo gi ut uv hgh cu de br th ot nm on yk ya yh yo yr y1 y2 fi ev it iv ph fr mi aT ed bt bv oT oV pa') → wY_update_30 post li to mo gi ut uv hgh cu de br (l.length + 1) (nI m) (nI i) th ot nm on yk ya yh yo yr y1 y2 fi ev it iv ph fr mi aT ed bt bv oT oV pa
  | [], i, m, pa, _, hl, hm, H => by
    have e : i = C := hl
    subst e
    exact br_t (by rw [hcu]; exact Int32.le_refl _) (H pa (fun _ _ => rfl) trivial)
  | o :: l, i, m, pa, hs, hl, hm, H => by
    obtain ⟨s1, s2, s3⟩ := hs
    rw [List.length_cons] at hl
    have cl : (nI i).toNatClampNeg = i := nI_clamp (by omega)
    have clm : (nI m).toNatClampNeg = m := nI_clamp (by omega)
    have hi : vp_in (nI i) 8192 := vp_in_nI (by omega) (by omega)
    refine br_f (by rw [hcu]; exact nI_ge (by omega) (by omega)) ⟨hi, ?_⟩
    by_cases h2 : o.1 = 2
    · have hf : up_f (o :: l) = o.2 :: up_f l := by rw [up_f, if_pos h2]
      rw [hf, List.length_cons] at H
      refine br_t (by rw [cl, s1]; exact h2) ⟨hi, vp_in_nI (by omega) (by omega), nm_r (e' := upd pa m o.2) (by rw [cl, clm, s2]) (nm_r (nI_1 m) (nm_r (nI_1 i) (yu_30 hC hcu s3 (by omega) (by omega) (fun pa' h1 h3 => ?_))))⟩
      have := H pa' (fun j hj => (h1 j (by omega)).trans (pb_u hj)) ⟨(h1 m (by omega)).trans pk_us, h3⟩
      rw [show m + ((up_f l).length + 1) = m + 1 + (up_f l).length by omega] at this
      exact this
    · have hf : up_f (o :: l) = up_f l := by rw [up_f, if_neg h2]
      rw [hf] at H
      exact br_f (by rw [cl, s1]; exact h2) (nm_r (nI_1 i) (yu_30 hC hcu s3 (by omega) (by omega) H))
theorem yu_up {f m : Nat} (ok : ps_ok p iw T) (yp : yr_p p T yk ya y1 y2) (ar : ps_ar p T) (hf : f < T) (hw : iw f 0 ≤ 24) (hto : to - 1 = nI f) (hm : m ≤ 1000) : ∀ {qs : List Int32} {i : Nat} {D : DD} {ot on : Nat → Int32} {s : YM}, dc_bl D.1 → up_sg pa i qs → (∀ q, q ∈ qs → ∃ j, j < 40 ∧ q = nI j) → i + qs.length = m →
    (∀ (D' : DD) (ot on : Nat → Int32) (s : YM), D' = up_it p f qs D → post (nI m) (li, to, 0, 0, ut, uv, hgh, y_cu s, y_de s, y_br s, D'.1, ot, D'.2, on, yk, ya, yh, yo, yr, y1, y2, y_fi s, y_ev s, y_it s, y_iv s, y_ph s, y_fr s, y_mi s, y_aT s, y_ed s, y_bt s, y_bv s, y_oT s, y_oV s, pa)) →
    wY_update_71 post (nI m) (qs.length + 1) (nI i) li to mo gi ut uv hgh (y_cu s) (y_de s) (y_br s) D.1 ot D.2 on yk ya yh yo yr y1 y2 (y_fi s) (y_ev s) (y_it s) (y_iv s) (y_ph s) (y_fr s) (y_mi s) (y_aT s) (y_ed s) (y_bt s) (y_bv s) (y_oT s) (y_oV s) pa := by
  intro qs
  induction qs with
  | nil =>
    intro i D ot on s hb hs hv hi H
    have e : i = m := hi
    subst e
    exact br_t (Int32.le_refl _) (H D ot on s rfl)
  | cons q qs ih =>
    intro i D ot on s hb hs hv hi H
    rw [List.length_cons] at hi
    obtain ⟨j, hj, rfl⟩ := hv q List.mem_cons_self
    have cl : (nI i).toNatClampNeg = i := nI_clamp (by omega)
    have clj : (nI j).toNatClampNeg = j := nI_clamp (by omega)
    have hiv : vp_in (nI i) 8192 := vp_in_nI (by omega) (by omega)
    have epa : pa (nI i).toNatClampNeg = nI j := by rw [cl]; exact hs.1
    have okd : ps_ok (pg_d p D.1 D.2) iw T := ok
    have hlen := ps_len24 (N := 24) (v := (2, nI j)) okd hf hw
    have hav := ps_ev_v okd 24 f 0 [] (2, nI j) hf (fun x hx => by cases hx) (aw_v_i (Or.inr (Or.inr rfl)) hj)
    refine br_f (nI_ge (by omega) (by omega)) ⟨hiv, ?_⟩
    rw [epa, hto]
    refine ys_evaluate (p := pg_d p D.1 D.2) (N := 24) (j := j) okd yp ar rfl rfl hf hw hw hj (fun s' hc hsg => ⟨hiv, ?_⟩)
    rw [epa]
    refine yd_replace (l := (ps_ev (pg_d p D.1 D.2) 24 f [] (2, nI j)).1) hj hb (by omega) hav hc hsg (fun D1 ot on hD1 => nm_r (nI_1 i) ?_)
    refine ih (D := D1) (s := s') (by rw [hD1]; exact dc_bl_rp hb) hs.2 (fun z hz => hv z (List.mem_cons_of_mem _ hz)) (by omega) (fun D' ot on s hD' => H D' ot on s ?_)
    rw [up_it, clj, hD', hD1]
end
end
section
theorem i_vc_update {k : Nat} {u : SX} {v : SY} (I : i_Rel k u v) (hk : k + 3 ≤ 1537) : wpX_update (fun r u' => wpY_update (fun r' v' => r' = r ∧ i_Rel (k + 3) u' v') v) u := by
  refine zz_el (P := fun u v => wpX_update (fun r u' => wpY_update (fun r' v' => r' = r ∧ i_Rel (k + 3) u' v') v) u) ?_ I
  intro k0 k1 k2 k3 k4 k5 k6 k7 k8 k9 k10 rm tc fc tw ht ft md nd en co vk vl st fe pr nu np nn tg ka ar c1 c2 c3 ro we op cT cN cE cK cV cX gN gE gC gK gV gH gT li to mo gi ut uv hgh cu de br th ot nm on yk ya yh yo yr y1 y2 fi ev it iv ph fr mi aT ed bt bv oT oV pa
  rintro ⟨p, wt, op', iw, Y, R, T, rmn, g, s, A, B, C, D, E, F, G⟩
  have hs24 : pw_sm wt (R T) ≤ 24 := by have := B.2.2.2.2; omega
  have hT : T ≤ 24 := by have := (pw_sum A.1 (Nat.le_refl T)).1; omega
  have hTl := (pw_sum A.1 (Nat.le_refl T)).2
  have ok := pw_ok A.1 (show T ≤ 32 by omega)
  have yfil : ∀ (post : Int32 → SY → Prop), (∀ hgh yh yo yr y1 y2, hgh = nI (R T).length → sk_r wt op' yr yh yo (R T) → yr_p p T yk ya y1 y2 → post (nI (R T).length) (li, to, mo, gi, ut, uv, hgh, cu, de, br, th, ot, nm, on, yk, ya, yh, yo, yr, y1, y2, fi, ev, it, iv, ph, fr, mi, aT, ed, bt, bv, oT, oV, pa)) → wpY_filters post (li, to, mo, gi, ut, uv, hgh, cu, de, br, th, ot, nm, on, yk, ya, yh, yo, yr, y1, y2, fi, ev, it, iv, ph, fr, mi, aT, ed, bt, bv, oT, oV, pa) := fun post h => yt_filters A.1 (by omega) (fun i hi => by have := (pw_b24 A.1 hs24 hi).2; omega) (fun i hi => (C.2.2 i hi).1) B.2.1 (fun hgh yh yo yr y1' y2' e hs h12 => h hgh yh yo yr y1' y2' e hs (yt_yp C.2.2 h12))
  by_cases h2 : (R T).length < 2
  · have hfc : ¬ 2 ≤ fc := by rw [B.2.2.1]; exact nI_ge (b := 2) h2 (by decide)
    refine br_f hfc ?_
    dsimp only
    unfold wpY_update
    dsimp only
    exact yfil _ (fun hgh yh yo yr y1' y2' e hs yp' => br_f (nI_ge (b := 2) h2 (by decide)) ⟨rfl, p, wt, op', iw, Y, R, T, rmn, g, s, A, B, ⟨C.1, C.2.1, yp'⟩, D, E, F, G⟩)
  · obtain ⟨a, b, rest, hR⟩ : ∃ (a b : Nat) (rest : List Nat), R T = a :: b :: rest := by
      match hx : R T with
      | [] => rw [hx] at h2; exact absurd (by decide) h2
      | [_] => rw [hx] at h2; exact absurd (by simp) h2
      | a :: b :: rest => exact ⟨a, b, rest, rfl⟩
    have hT0 : 0 < T := by rcases Nat.eq_zero_or_pos T with q | q
                           · rw [q, A.1.1] at hR; cases hR
                           · exact q
    obtain ⟨rest', hR'⟩ := pw_top A.1 (i := T - 1) (by omega)
    rw [show T - 1 + 1 = T by omega, hR] at hR'
    have haT : a = T - 1 := (List.cons.inj hR').1
    have hbT : b < T := pw_lt A.1 (Nat.le_refl T) b (by rw [hR]; simp)
    have hlr : rest.length + 2 ≤ 24 := by rw [hR] at hTl; simp at hTl; omega
    have hfc : fc = nI (rest.length + 2) := by rw [B.2.2.1, hR]; rfl
    have hiwb : iw b 0 ≤ 24 := by
      have h1 := pw_iw A.1 (by omega) hbT 0
      have h3 := (pw_b24 A.1 hs24 hbT).1
      omega
    have hiwa : iw (T - 1) 0 ≤ 24 := by
      have h1 := pw_iw A.1 (by omega) (show T - 1 < T by omega) 0
      have h3 := (pw_b24 A.1 hs24 (show T - 1 < T by omega)).1
      omega
    have hroots := C.2.1
    rw [hR] at hroots
    have hrb : ro rest.length = nI b := hroots.2.2.2.1
    have hra : ro (rest.length + 1) = nI (T - 1) := by rw [← haT]; exact hroots.1
    have cl0 : (nI rest.length).toNatClampNeg = rest.length := nI_clamp (by omega)
    have cl1 : (nI (rest.length + 1)).toNatClampNeg = rest.length + 1 := nI_clamp (by omega)
    have hlen := ps_len24 (N := 24) (v := (2, nI 0)) ok hbT hiwb
    have hav := ps_ev_v ok 24 b 0 [] (2, nI 0) hbT (fun x hx => by cases hx) (aw_v_i (Or.inr (Or.inr rfl)) (by omega : 0 < 40))
    have hfl := up_f_len (l := (ps_ev p 24 b [] (2, nI 0)).1)
    have hfv := up_f_v hav
    have hto : to - 1 = nI (T - 1) := by rw [B.2.1]; exact pb_m1 hT0
    have e2 : fc - 2 = nI rest.length := by rw [hfc]; exact pb_m2 (by omega)
    have e1 : fc - 1 = nI (rest.length + 1) := by rw [hfc]; exact pb_m1 (by omega)
    refine br_t (by rw [hfc]; exact nI_le (a := 2) (by omega) (by omega)) ⟨by rw [e2]; exact vp_in_nI (by omega) (by omega), ?_⟩
    rw [e2, cl0, hrb]
    refine xu_list ok C.1 D.1 D.2.2.1 hbT hiwb (fun tg' ht ft md nd en co vk vl h g' htg => ⟨by rw [e1]; exact vp_in_nI (by omega) (by omega), nm_r (e' := nI (T - 1)) (by rw [e1, cl1]; exact hra) ⟨(up_f (ps_ev p 24 b [] (2, nI 0)).1).length + 1, ?_⟩⟩)
    refine xu_up (D := (pr, nu)) (p := p) ok C.1 (show T - 1 < T by omega) hiwa (show (up_f (ps_ev p 24 b [] (2, nI 0)).1).length ≤ 1024 by omega) htg hfv (Nat.zero_add _) (fun D' np nn ht ft md nd en co vk vl h g' hD' => ?_)
    unfold wpY_update
    dsimp only
    refine yfil _ (fun hgh yh yo yr y1' y2' e hs yp' => ?_)
    have hsr := hs
    rw [hR] at hsr
    have hyb : yr rest.length = nI b := hsr.2.2.2.1
    have eh : hgh - 2 = nI rest.length := by rw [e, hR]; exact pb_m2 (by simp)
    refine br_t (by rw [hR]; exact nI_le (a := 2) (by simp) (by simp; omega)) ⟨by rw [eh]; exact vp_in_nI (by omega) (by omega), ?_⟩
    rw [eh, cl0]
    dsimp only
    rw [hyb]
    refine ys_evaluate (N := 24) (j := 0) ok yp' (pw_ars A.1) D.2.1 D.2.2.2.1 hbT hiwb hiwb (by omega) (fun s' hc hsg => ⟨(ps_ev p 24 b [] (2, nI 0)).1.length + 1, ?_⟩)
    refine yu_30 (C := (ps_ev p 24 b [] (2, nI 0)).1.length) (i := 0) (m := 0) (by omega) hc hsg (Nat.zero_add _) (Nat.le_refl _) (fun pa' _ hpa => ?_)
    rw [Nat.zero_add]
    refine ⟨(up_f (ps_ev p 24 b [] (2, nI 0)).1).length + 1, ?_⟩
    refine yu_up (D := (th, nm)) (s := s') (p := p) ok yp' (pw_ars A.1) (show T - 1 < T by omega) hiwa hto (by omega) (by show dc_bl th; rw [D.2.1]; exact D.2.2.2.2) hpa hfv (Nat.zero_add _) (fun D2 ot on s2 hD2 => ?_)
    have hDD : D2 = D' := by rw [hD2, hD', D.1, D.2.1, D.2.2.1, D.2.2.2.1]
    subst hDD
    refine ⟨rfl, pg_d p D2.1 D2.2, wt, op', iw, Y, R, T, rmn, 0, 0, A, B, ⟨C.1, C.2.1, yp'⟩, ⟨rfl, rfl, rfl, rfl, ?_⟩, ⟨rfl, rfl, Nat.zero_le _, rfl, rfl⟩, (fun z => by omega), (fun z => by omega)⟩
    show dc_bl D2.1
    rw [hD2]
    refine up_bl ?_
    show dc_bl th
    rw [D.2.1]; exact D.2.2.2.2
end
