section
/-! the pure picture: parts as (left, right, look) -/
theorem nx_xor (a b : Nat) : nI a ^^^ nI b = nI (a ^^^ b) := by
  apply Int32.toBitVec_inj.1
  show BitVec.ofNat 32 a ^^^ BitVec.ofNat 32 b = BitVec.ofNat 32 (a ^^^ b)
  apply BitVec.eq_of_getLsbD_eq
  intro i hi
  simp [hi]
abbrev qz_T : Type := List (Nat × Nat × Int64)
def qz_l (T : qz_T) (k : Nat) : Nat := (T.getD k (0, 0, 0)).1
def qz_r (T : qz_T) (k : Nat) : Nat := (T.getD k (0, 0, 0)).2.1
def qz_k (T : qz_T) (k : Nat) : Int64 := (T.getD k (0, 0, 0)).2.2
def qz_neu (x : Int64) : Int64 := if (x &&& 1) = 0 then x else x ^^^ (-1)
def qz_mp (x y : Nat) : Nat := (((nI x * 37) + (nI y * 101)) &&& 1023).toNatClampNeg
def qz_mi (x : Int64) : Int32 := ((((qz_neu x) ^^^ (((qz_neu x).toUInt64 >>> ((17 : Int32).toInt64.toUInt64 &&& Int64.toUInt64 63)).toInt64)) ^^^ (((qz_neu x).toUInt64 >>> ((41 : Int32).toInt64.toUInt64 &&& Int64.toUInt64 63)).toInt64)) &&& 1023).toInt32
def qz_ml (x : Int64) : Nat := (qz_mi x).toNatClampNeg
def qz_pm (T : qz_T) (k : Nat) : Nat := qz_mp (qz_l T k) (qz_r T k)
def qz_lm (T : qz_T) (k : Nat) : Nat := qz_ml (qz_k T k)
/-- the last part below n that has mark m, from lo on; -1: none -/
def qz_last (mk : Nat → Nat) (lo m : Nat) : Nat → Int32
  | 0 => -1
  | n + 1 => if lo ≤ n ∧ mk n = m then nI n else qz_last mk lo m n
/-- the state's graph matches T -/
def qz_ok (pt : Int32) (a3 a4 a5 a6 : Nat → Int32) (a8 : Nat → Int64) (a9 a10 : Nat → Int32) (T : qz_T) : Prop :=
  (pt = nI T.length ∧ 9 ≤ T.length ∧ T.length ≤ 30) ∧
  (∀ k, k < T.length → qz_l T k < 64 ∧ qz_r T k < 64 ∧ a8 k = qz_k T k) ∧
  (∀ k, 9 ≤ k → k < T.length → a3 k = nI (qz_l T k) ∧ a4 k = nI (qz_r T k)) ∧
  (∀ m, m < 1024 → a5 m = qz_last (qz_pm T) 9 m T.length) ∧
  (∀ k, 9 ≤ k → k < T.length → a6 k = qz_last (qz_pm T) 9 (qz_pm T k) k) ∧
  (∀ m, m < 1024 → a9 m = qz_last (qz_lm T) 0 m T.length) ∧
  (∀ k, k < T.length → a10 k = qz_last (qz_lm T) 0 (qz_lm T k) k)
/-! small facts of ints -/
theorem qz_x1 (n : Nat) : nI n ^^^ 1 = nI (n ^^^ 1) := nx_xor n 1
theorem qz_x1lt : ∀ n, n < 64 → n ^^^ 1 < 64 := by decide +kernel
theorem qz_x1lt60 : ∀ n, n < 60 → n ^^^ 1 < 60 := by decide +kernel
theorem qz_shr {n : Nat} (h : n < 64) : nI n >>> ((1 : Int32) &&& 31) = nI (n / 2) := pk_shrN (by omega) _ 1 (by decide)
theorem qz_an1 {n : Nat} (h : n < 64) : nI n &&& 1 = nI (n % 2) := pk_andN (by omega) 1 (by decide)
theorem qz_sh : ∀ n, n < 64 → (nI n).toInt16.toInt32 = nI n := by decide +kernel
theorem qz_dbl (n : Nat) : 2 * nI n = nI (2 * n) := pk_mul 2 n
theorem qz_nm1 : ∀ n, n < 64 → ¬ nI n = -1 := by decide +kernel
theorem qz_mpin (x y : Int32) : vp_in (((x * 37) + (y * 101)) &&& 1023) 1024 := pk_andIn _ 10 (by decide) (by decide)
theorem qz_mplt (x y : Nat) : qz_mp x y < 1024 := by
  obtain ⟨j, hj, e⟩ := vp_in_of (qz_mpin (nI x) (nI y)) (by decide)
  unfold qz_mp
  rw [e, nI_clamp (by omega)]
  exact hj
theorem qz_miin (x : Int64) : vp_in (qz_mi x) 1024 := by
  unfold qz_mi
  rw [Int64.toInt32_and]
  exact pk_andIn _ 10 (by decide) (by decide)
theorem qz_mllt (x : Int64) : qz_ml x < 1024 := by
  obtain ⟨j, hj, e⟩ := vp_in_of (qz_miin x) (by decide)
  unfold qz_ml
  rw [e, nI_clamp (by omega)]
  exact hj
/-! qz_last -/
theorem qz_last_nar (mk : Nat → Nat) (lo m : Nat) : ∀ n, n ≤ 64 → vp_nar .short (qz_last mk lo m n) = qz_last mk lo m n := by
  intro n
  induction n with
  | zero => intro _; exact (by decide +kernel : vp_nar .short (-1) = (-1 : Int32))
  | succ n ih =>
    intro h
    unfold qz_last
    by_cases c : lo ≤ n ∧ mk n = m
    · rw [if_pos c, vp_nar_short]; exact qz_sh n (by omega)
    · rw [if_neg c]; exact ih (by omega)
theorem qz_last_cg {mk mk' : Nat → Nat} {lo m : Nat} : ∀ n, (∀ k, k < n → mk k = mk' k) → qz_last mk lo m n = qz_last mk' lo m n := by
  intro n
  induction n with
  | zero => intro _; rfl
  | succ n ih =>
    intro h
    show (if lo ≤ n ∧ mk n = m then nI n else qz_last mk lo m n) = (if lo ≤ n ∧ mk' n = m then nI n else qz_last mk' lo m n)
    rw [h n (by omega), ih (fun k hk => h k (by omega))]
theorem qz_last_s {mk : Nat → Nat} {lo m n : Nat} : qz_last mk lo m (n + 1) = if lo ≤ n ∧ mk n = m then nI n else qz_last mk lo m n := rfl
/-! T -/
theorem qz_l_app {T : qz_T} {e : Nat × Nat × Int64} {k : Nat} (h : k < T.length) : (T ++ [e]).getD k (0, 0, 0) = T.getD k (0, 0, 0) := by
  simp [List.getD, List.getElem?_append_left h]
theorem qz_l_new {T : qz_T} {e : Nat × Nat × Int64} : (T ++ [e]).getD T.length (0, 0, 0) = e := by
  simp [List.getD]
theorem qz_l_take {T : qz_T} {j k : Nat} (h : k < j) : (T.take j).getD k (0, 0, 0) = T.getD k (0, 0, 0) := by
  simp [List.getD, List.getElem?_take, h]
/-- a part is added -/
theorem qz_add {pt : Int32} {a3 a4 a5 a6 : Nat → Int32} {a8 : Nat → Int64} {a9 a10 : Nat → Int32} {T : qz_T} {x y : Nat} {K : Int64}
    (h : qz_ok pt a3 a4 a5 a6 a8 a9 a10 T) (hl : T.length < 30) (hx : x < 64) (hy : y < 64) :
    qz_ok (pt + 1) (upd a3 T.length (nI x)) (upd a4 T.length (nI y)) (upd a5 (qz_mp x y) (nI T.length)) (upd a6 T.length (vp_nar .short (a5 (qz_mp x y)))) (vp_updL a8 T.length K)
      (upd a9 (qz_ml K) (nI T.length)) (upd a10 T.length (vp_nar .short (a9 (qz_ml K)))) (T ++ [(x, y, K)]) := by
  obtain ⟨⟨h1, h2, h3⟩, h4, h5, h6, h7, h8, h9⟩ := h
  have L : (T ++ [(x, y, K)]).length = T.length + 1 := by simp
  have gl : ∀ k, k < T.length → qz_l (T ++ [(x, y, K)]) k = qz_l T k := fun k hk => by unfold qz_l; rw [qz_l_app hk]
  have gr : ∀ k, k < T.length → qz_r (T ++ [(x, y, K)]) k = qz_r T k := fun k hk => by unfold qz_r; rw [qz_l_app hk]
  have gk : ∀ k, k < T.length → qz_k (T ++ [(x, y, K)]) k = qz_k T k := fun k hk => by unfold qz_k; rw [qz_l_app hk]
  have nl : qz_l (T ++ [(x, y, K)]) T.length = x := by unfold qz_l; rw [qz_l_new]
  have nr : qz_r (T ++ [(x, y, K)]) T.length = y := by unfold qz_r; rw [qz_l_new]
  have nk : qz_k (T ++ [(x, y, K)]) T.length = K := by unfold qz_k; rw [qz_l_new]
  have gp : ∀ k, k < T.length → qz_pm (T ++ [(x, y, K)]) k = qz_pm T k := fun k hk => by unfold qz_pm; rw [gl k hk, gr k hk]
  have gm : ∀ k, k < T.length → qz_lm (T ++ [(x, y, K)]) k = qz_lm T k := fun k hk => by unfold qz_lm; rw [gk k hk]
  have np : qz_pm (T ++ [(x, y, K)]) T.length = qz_mp x y := by unfold qz_pm; rw [nl, nr]
  have nm : qz_lm (T ++ [(x, y, K)]) T.length = qz_ml K := by unfold qz_lm; rw [nk]
  unfold qz_ok
  rw [L]
  refine ⟨⟨by rw [h1, nI_1], by omega, by omega⟩, fun k hk => ?_, fun k hk9 hk => ?_, fun m hm => ?_, fun k hk9 hk => ?_, fun m hm => ?_, fun k hk => ?_⟩
  · by_cases e : k = T.length
    · rw [e, nl, nr, nk, pk_uLs]; exact ⟨hx, hy, rfl⟩
    · have hk' : k < T.length := by omega
      rw [gl k hk', gr k hk', gk k hk', pk_uLn e]; exact h4 k hk'
  · by_cases e : k = T.length
    · rw [e, nl, nr, pk_us, pk_us]; exact ⟨rfl, rfl⟩
    · have hk' : k < T.length := by omega
      rw [gl k hk', gr k hk', pk_un e, pk_un e]; exact h5 k hk9 hk'
  · rw [qz_last_s, np]
    by_cases e : m = qz_mp x y
    · rw [if_pos ⟨h2, e.symm⟩, e, pk_us]
    · rw [if_neg (fun z => e z.2.symm), pk_un e, h6 m hm]
      exact qz_last_cg _ (fun k hk => (gp k hk).symm)
  · by_cases e : k = T.length
    · rw [e, pk_us, np, h6 _ (qz_mplt x y), qz_last_nar _ _ _ _ (by omega)]
      exact qz_last_cg _ (fun k hk => (gp k hk).symm)
    · have hk' : k < T.length := by omega
      rw [pk_un e, h7 k hk9 hk', gp k hk']
      exact qz_last_cg _ (fun j hj => (gp j (by omega)).symm)
  · rw [qz_last_s, nm]
    by_cases e : m = qz_ml K
    · rw [if_pos ⟨Nat.zero_le _, e.symm⟩, e, pk_us]
    · rw [if_neg (fun z => e z.2.symm), pk_un e, h8 m hm]
      exact qz_last_cg _ (fun k hk => (gm k hk).symm)
  · by_cases e : k = T.length
    · rw [e, pk_us, nm, h8 _ (qz_mllt K), qz_last_nar _ _ _ _ (by omega)]
      exact qz_last_cg _ (fun k hk => (gm k hk).symm)
    · have hk' : k < T.length := by omega
      rw [pk_un e, h9 k hk', gm k hk']
      exact qz_last_cg _ (fun j hj => (gm j (by omega)).symm)
/-- the last part is taken away -/
theorem qz_drop {pt : Int32} {a3 a4 a5 a6 : Nat → Int32} {a8 : Nat → Int64} {a9 a10 : Nat → Int32} {T : qz_T} {n : Nat}
    (h : qz_ok pt a3 a4 a5 a6 a8 a9 a10 T) (hn : T.length = n + 1) (h9n : 9 ≤ n) :
    qz_ok (nI n) a3 a4 (upd a5 (qz_pm T n) (vp_nar .short (a6 n))) a6 a8 (upd a9 (qz_lm T n) (vp_nar .short (a10 n))) a10 (T.take n) := by
  obtain ⟨⟨h1, h2, h3⟩, h4, h5, h6, h7, h8, h9⟩ := h
  rw [hn] at h2 h3 h4 h5 h6 h7 h8 h9
  have L : (T.take n).length = n := by rw [List.length_take]; omega
  have gl : ∀ k, k < n → qz_l (T.take n) k = qz_l T k := fun k hk => by unfold qz_l; rw [qz_l_take hk]
  have gr : ∀ k, k < n → qz_r (T.take n) k = qz_r T k := fun k hk => by unfold qz_r; rw [qz_l_take hk]
  have gk : ∀ k, k < n → qz_k (T.take n) k = qz_k T k := fun k hk => by unfold qz_k; rw [qz_l_take hk]
  have gp : ∀ k, k < n → qz_pm (T.take n) k = qz_pm T k := fun k hk => by unfold qz_pm; rw [gl k hk, gr k hk]
  have gm : ∀ k, k < n → qz_lm (T.take n) k = qz_lm T k := fun k hk => by unfold qz_lm; rw [gk k hk]
  unfold qz_ok
  rw [L]
  refine ⟨⟨rfl, by omega, by omega⟩, fun k hk => ?_, fun k hk9 hk => ?_, fun m hm => ?_, fun k hk9 hk => ?_, fun m hm => ?_, fun k hk => ?_⟩
  · rw [gl k hk, gr k hk, gk k hk]; exact h4 k (by omega)
  · rw [gl k hk, gr k hk]; exact h5 k hk9 (by omega)
  · rw [qz_last_cg n (fun k hk => gp k hk)]
    by_cases e : m = qz_pm T n
    · rw [e, pk_us, h7 n h9n (by omega), qz_last_nar _ _ _ _ (by omega)]
    · rw [pk_un e, h6 m hm, qz_last_s, if_neg (fun z => e z.2.symm)]
  · rw [h7 k hk9 (by omega), gp k hk]
    exact (qz_last_cg k (fun j hj => gp j (by omega))).symm
  · rw [qz_last_cg n (fun k hk => gm k hk)]
    by_cases e : m = qz_lm T n
    · rw [e, pk_us, h9 n (by omega), qz_last_nar _ _ _ _ (by omega)]
    · rw [pk_un e, h8 m hm, qz_last_s, if_neg (fun z => e z.2.symm)]
  · rw [h9 k (by omega), gm k hk]
    exact (qz_last_cg k (fun j hj => gm j (by omega))).symm
end
section
/-! the model: what each method answers, over T and E -/
def qz_oi : Option Nat → Int32
  | none => -1
  | some r => nI r
def qz_find (T : qz_T) (a b : Nat) : Nat → Option Nat
  | 0 => none
  | p + 1 => if 9 ≤ p ∧ qz_l T p = a ∧ qz_r T p = b then some (2 * p) else qz_find T a b p
def qz_found (T : qz_T) (x y : Nat) : Option Nat := if y ≤ x then qz_find T y x T.length else qz_find T x y T.length
def qz_has (T : qz_T) (e x : Nat) : Bool := qz_l T (e / 2) == x || qz_r T (e / 2) == x
def qz_oth (T : qz_T) (e x : Nat) : Nat := if qz_l T (e / 2) = x then qz_r T (e / 2) else qz_l T (e / 2)
def qz_abs (T : qz_T) (a b : Nat) : Option Nat :=
  if a / 2 < 9 then none
  else if qz_has T a (b ^^^ 1) = true then (if a % 2 = 0 then some 0 else some b)
  else if qz_has T a b = true then (if a % 2 = 0 then some a else qz_found T b (qz_oth T a b ^^^ 1))
  else if a % 2 = 0 then (if b / 2 < 9 then none else if b % 2 = 0 then (if qz_has T b (qz_l T (a / 2) ^^^ 1) = true then some 0 else if qz_has T b (qz_r T (a / 2) ^^^ 1) = true then some 0 else none) else none)
  else none
def qz_laws (T : qz_T) (a b : Nat) : Option Nat :=
  if a = 0 then some 0 else if b = 0 then some 0 else if a = b ^^^ 1 then some 0
  else if a = 1 then some b else if a = b then some b else if b = 1 then some a
  else match qz_abs T a b with
    | some r => some r
    | none => qz_abs T b a
def qz_lkE (T : qz_T) (e : Nat) : Int64 := if e % 2 = 0 then qz_k T (e / 2) else qz_k T (e / 2) ^^^ (-1)
def qz_new (T : qz_T) (a b : Nat) : Option (Nat × qz_T) :=
  if T.length < 30 ∧ (T.all (fun e => qz_neu e.2.2 != qz_neu (qz_lkE T a &&& qz_lkE T b))) = true then some (2 * T.length, T ++ [(a, b, qz_lkE T a &&& qz_lkE T b)]) else none
def qz_keep (T : qz_T) (r : Nat) : Option (Nat × qz_T) := if r < 64 then some (r, T) else none
def qz_and2 (T : qz_T) (a b : Nat) : Option (Nat × qz_T) :=
  match qz_laws T a b with
  | some r => qz_keep T r
  | none => match qz_found T a b with
    | some r => qz_keep T r
    | none => qz_new T a b
def qz_and (T : qz_T) (x y : Nat) : Option (Nat × qz_T) :=
  if x < 2 * T.length ∧ y < 2 * T.length then (if y ≤ x then qz_and2 T y x else qz_and2 T x y) else none
def qz_or (T : qz_T) (x y : Nat) : Option (Nat × qz_T) :=
  match qz_and T (x ^^^ 1) (y ^^^ 1) with
  | some (r, T1) => some (r ^^^ 1, T1)
  | none => none
def qz_two (T : qz_T) (x y z w : Nat) : Option (Nat × qz_T) :=
  match qz_and T x y with
  | some (r, T1) => match qz_and T1 z w with
    | some (s, T2) => qz_or T2 r s
    | none => none
  | none => none
def qz_neg : Option (Nat × qz_T) → Option (Nat × qz_T)
  | some (r, T) => some (r ^^^ 1, T)
  | none => none
def qz_end (T : qz_T) (kind a b c : Nat) : Option (Nat × qz_T) :=
  match kind with
  | 0 => qz_and T a b
  | 1 => qz_or T a b
  | 2 => qz_two T a (b ^^^ 1) (a ^^^ 1) b
  | 3 => qz_neg (qz_and T a b)
  | 4 => qz_neg (qz_or T a b)
  | 5 => qz_neg (qz_two T a (b ^^^ 1) (a ^^^ 1) b)
  | 6 => qz_neg (qz_and T a (b ^^^ 1))
  | 7 => qz_two T a b (a ^^^ 1) c
  | _ => none
def qz_gate (E : List Nat) (T : qz_T) (kind a b c : Nat) : Option (List Nat × qz_T) :=
  if a < E.length ∧ b < E.length ∧ c < E.length ∧ E.length < 40 then
    match qz_end T kind (E.getD a 0) (E.getD b 0) (if kind < 7 then 0 else E.getD c 0) with
    | some (r, T1) => if r < 64 then some (E ++ [r], T1) else none
    | none => none
  else none
def qz_f0 (i v : Nat) : List Nat := (List.range 9).map (fun p => if p = 0 then 0 else if p = i + 1 then v else 2 * p)
def qz_fixL : Nat → qz_T → List Nat → Option (List Nat × qz_T)
  | 0, T, F => some (F, T)
  | n + 1, T, F =>
    if F.length < T.length ∧ qz_l T F.length / 2 < F.length ∧ qz_r T F.length / 2 < F.length then
      (if F.getD (qz_l T F.length / 2) 0 ^^^ (qz_l T F.length % 2) = qz_l T F.length ∧ F.getD (qz_r T F.length / 2) 0 ^^^ (qz_r T F.length % 2) = qz_r T F.length then qz_fixL n T (F ++ [2 * F.length])
      else match qz_and T (F.getD (qz_l T F.length / 2) 0 ^^^ (qz_l T F.length % 2)) (F.getD (qz_r T F.length / 2) 0 ^^^ (qz_r T F.length % 2)) with
        | some (q, T1) => if q < 64 then qz_fixL n T1 (F ++ [q]) else none
        | none => none)
    else none
def qz_fix (T : qz_T) (i v : Nat) : Option (Nat × qz_T) :=
  if 11 < T.length ∧ qz_l T 11 / 2 = 9 ∧ qz_r T 11 / 2 = 10 then
    match qz_fixL 3 T (qz_f0 i v) with
    | some (F, T1) => some (F.getD 11 0 ^^^ 1, T1)
    | none => none
  else none
def qz_dep (T : qz_T) : Nat → Nat → Int32 → Option Int32
  | 0, _, s => some s
  | n + 1, i, s => match qz_fix T i 0 with
    | some (lo, T1) => match qz_fix T1 i 1 with
      | some (hi, T2) => if lo < 64 ∧ hi < 64 ∧ T.length ≤ T2.length ∧ T2.take T.length = T then qz_dep T n (i + 1) (s ||| (if lo = hi then 0 else (1 : Int32) <<< (nI i &&& 31))) else none
      | none => none
    | none => none
def qz_fst (E : List Nat) (a : Nat) : Nat → Nat → Nat
  | 0, b => b
  | n + 1, b => if E.getD b 0 = E.getD a 0 then b else qz_fst E a n (b + 1)
def qz_gr (E : List Nat) : Nat → Nat
  | 0 => 0
  | k + 1 => qz_gr E k + (if qz_fst E k k 0 = k then 1 else 0)
def qz_T0 : qz_T := [(0, 0, 0), (0, 0, 6148914691236517205), (0, 0, 7378697629483820646), (0, 0, 5425512962855750475), (0, 0, 358886071472948475), (0, 0, 6871262284318744740), (0, 0, 1350039646817727000), (0, 0, -6599430586852028097), (0, 0, -5623061824452396678)]
def qz_E0 : List Nat := [2, 4, 6, 8, 10, 12, 14, 16]
def qz_run (a b c : Nat) : Option (List Nat × qz_T) :=
  match qz_gate qz_E0 qz_T0 0 a b 0 with
  | none => none
  | some (E1, T1) => match qz_gate E1 T1 4 a a 0 with
    | none => none
    | some (E2, T2) => match qz_gate E2 T2 0 9 c 0 with
      | none => none
      | some (E3, T3) => match qz_gate E3 T3 1 8 10 0 with
        | none => none
        | some (E4, T4) => qz_gate E4 T4 7 a b c
end
section
/-! the model's 672 runs, and the looks of the inputs -/
def qz_chk (a b c : Nat) : Bool :=
  match qz_run a b c with
  | none => false
  | some (E, T) => decide (E.length = 13) && decide (E.getD 11 0 = 23) && decide (E.getD 12 0 = 23)
      && decide (qz_dep T 8 0 0 = some (((1 : Int32) <<< (nI a &&& 31) ||| (1 : Int32) <<< (nI b &&& 31)) ||| (1 : Int32) <<< (nI c &&& 31)))
      && (List.range 7).all (fun kind => match qz_gate E T kind 11 12 3 with
        | none => false
        | some (E1, T1) => decide (T1 = T) && decide (E1.length = 14) && decide (E1.getD 11 0 = 23) && decide (E1.getD 12 0 = 23)
            && (if kind = 2 then decide (E1.getD 13 0 = 0) else if kind < 5 then decide (1 < E1.getD 13 0) else decide (E1.getD 13 0 = 1))
            && decide (qz_gr E1 14 = (if kind ≤ 1 then 12 else 13)))
theorem qz_all : ∀ a, a < 8 → ∀ d, d < 3 → ∀ f, f < 4 → qz_chk a ((a + 1 + d) % 8) ((a + 4 + f) % 8) = true := by decide +kernel
def qz_lcg : Nat → Int32
  | 0 => 0
  | k + 1 => ((qz_lcg k * 5) + 77) &&& 255
def qz_pat (k : Nat) : Int32 := (qz_lcg (k + 1)).toInt16.toInt32
def qz_acc (i : Nat) : Nat → Int64
  | 0 => 0
  | k + 1 => qz_acc i k ||| (if ((qz_pat k >>> (nI i &&& 31)) &&& 1) = 0 then 0 else (1 : Int64) <<< ((nI k).toInt64 &&& 63))
theorem qz_accs : ∀ i, i < 8 → qz_acc i 64 = qz_k qz_T0 (i + 1) := by decide +kernel
end
section
/-! walks of the methods that only read -/
section
variable {c0 pt pn lc cl mv ts lv fa : Int32} {a1 a2 a3 a4 a5 a6 a7 : Nat → Int32} {a8 : Nat → Int64} {a9 a10 a11 a12 a13 a14 a15 a16 a17 a18 : Nat → Int32}
variable {T : qz_T}
theorem qw_neu {post : Int64 → Prop} {x : Int64} (h : post (qz_neu x)) : wpX_neutral post () x := by
  unfold wpX_neutral
  unfold qz_neu at h
  by_cases c : (x &&& 1) = 0
  · rw [if_pos c] at h
    exact br_t c h
  · rw [if_neg c] at h
    exact br_f c h
theorem qw_ml {post : Int32 → Prop} {x : Int64} (h : post (qz_mi x)) : wpX_markOfLook post () x := by
  unfold wpX_markOfLook
  exact qw_neu (nm_e h)
theorem qw_loe {post : Int64 → Prop} {e : Nat} (he : e < 60) (hk : a8 (e / 2) = qz_k T (e / 2)) (hp : post (qz_lkE T e)) : wpX_lookOfEnd post (c0, pt, pn, lc, cl, mv, ts, lv, fa, a1, a2, a3, a4, a5, a6, a7, a8, a9, a10, a11, a12, a13, a14, a15, a16, a17, a18) (nI e) := by
  unfold wpX_lookOfEnd
  dsimp only
  rw [qz_shr (show e < 64 by omega), qz_an1 (show e < 64 by omega), nI_clamp (show e / 2 < 2 ^ 31 by omega)]
  unfold qz_lkE at hp
  refine ⟨vp_in_nI (by omega) (by decide), nm_r hk ?_⟩
  refine pk_eq (e % 2) 0 (fun z => ?_) (fun z => ?_)
  · rw [if_pos z] at hp
    exact hp
  · rw [if_neg z] at hp
    exact hp
theorem qw_isAnd {post : Int32 → Prop} {e : Nat} (he : e < 64) (h0 : e / 2 < 9 → post 0) (h1 : 9 ≤ e / 2 → post 1) : wpX_isAnd post (c0, pt, pn, lc, cl, mv, ts, lv, fa, a1, a2, a3, a4, a5, a6, a7, a8, a9, a10, a11, a12, a13, a14, a15, a16, a17, a18) (nI e) := by
  unfold wpX_isAnd
  dsimp only
  rw [qz_shr he]
  exact pk_lt (e / 2) 9 h0 h1
theorem qw_has {post : Int32 → Prop} {e x : Nat} (hq : qz_ok pt a3 a4 a5 a6 a8 a9 a10 T) (he : e < 2 * T.length) (h9 : 9 ≤ e / 2) (hx : x < 64)
    (h1 : qz_has T e x = true → post 1) (h0 : ¬ qz_has T e x = true → post 0) : wpX_has post (c0, pt, pn, lc, cl, mv, ts, lv, fa, a1, a2, a3, a4, a5, a6, a7, a8, a9, a10, a11, a12, a13, a14, a15, a16, a17, a18) (nI e) (nI x) := by
  obtain ⟨⟨q1, q2, q3⟩, q4, q5, _⟩ := hq
  have b4 := q4 (e / 2) (by omega)
  have b5 := q5 (e / 2) h9 (by omega)
  unfold wpX_has
  dsimp only
  rw [qz_shr (show e < 64 by omega), nI_clamp (show e / 2 < 2 ^ 31 by omega), b5.1, b5.2]
  have hin : vp_in (nI (e / 2)) 2560 := vp_in_nI (by omega) (by decide)
  refine ⟨hin, pk_eq (qz_l T (e / 2)) x (fun z => h1 ?_) (fun z => ⟨hin, pk_eq (qz_r T (e / 2)) x (fun w => h1 ?_) (fun w => h0 ?_) rfl rfl (by omega) (by omega)⟩) rfl rfl (by omega) (by omega)⟩
  · simp [qz_has, z]
  · simp [qz_has, w]
  · simp [qz_has, z, w]
theorem qw_oth {post : Int32 → Prop} {e x : Nat} (hq : qz_ok pt a3 a4 a5 a6 a8 a9 a10 T) (he : e < 2 * T.length) (h9 : 9 ≤ e / 2) (hx : x < 64)
    (h1 : post (nI (qz_oth T e x))) : wpX_otherThan post (c0, pt, pn, lc, cl, mv, ts, lv, fa, a1, a2, a3, a4, a5, a6, a7, a8, a9, a10, a11, a12, a13, a14, a15, a16, a17, a18) (nI e) (nI x) := by
  obtain ⟨⟨q1, q2, q3⟩, q4, q5, _⟩ := hq
  have b4 := q4 (e / 2) (by omega)
  have b5 := q5 (e / 2) h9 (by omega)
  unfold wpX_otherThan
  dsimp only
  rw [qz_shr (show e < 64 by omega), nI_clamp (show e / 2 < 2 ^ 31 by omega), b5.1, b5.2]
  have hin : vp_in (nI (e / 2)) 2560 := vp_in_nI (by omega) (by decide)
  unfold qz_oth at h1
  refine ⟨hin, pk_eq (qz_l T (e / 2)) x (fun z => ⟨hin, ?_⟩) (fun z => ⟨hin, ?_⟩) rfl rfl (by omega) (by omega)⟩
  · rw [if_pos z] at h1
    exact h1
  · rw [if_neg z] at h1
    exact h1
theorem qw_f40 {post : Int32 → Prop} {x y : Nat} (hq : qz_ok pt a3 a4 a5 a6 a8 a9 a10 T) (hx : x < 64) (hy : y < 64) :
    ∀ n, n ≤ T.length → ∀ f, n < f → post (qz_oi (qz_find T x y n)) → wX_found_40 post (nI x) (nI y) c0 pt pn lc cl mv ts lv fa a1 a2 a3 a4 a5 a6 a7 a8 a9 a10 a11 a12 a13 a14 a15 a16 a17 a18 f (qz_last (qz_pm T) 9 (qz_mp x y) n) := by
  obtain ⟨⟨q1, q2, q3⟩, q4, q5, q6, q7, _⟩ := hq
  intro n
  induction n with
  | zero =>
    intro _ f hf hp
    obtain ⟨f, rfl⟩ : ∃ g, f = g + 1 := ⟨f - 1, by omega⟩
    exact br_t (show (-1 : Int32) < 0 by decide) hp
  | succ n ih =>
    intro hn f hf hp
    rw [qz_last_s]
    by_cases c : 9 ≤ n ∧ qz_pm T n = qz_mp x y
    · rw [if_pos c]
      obtain ⟨f, rfl⟩ : ∃ g, f = g + 1 := ⟨f - 1, by omega⟩
      have b4 := q4 n (by omega)
      have b5 := q5 n c.1 (by omega)
      have b7 := q7 n c.1 (by omega)
      rw [c.2] at b7
      have hin : vp_in (nI n) 2560 := vp_in_nI (by omega) (by decide)
      unfold wX_found_40
      rw [nI_clamp (show n < 2 ^ 31 by omega), b5.1, b5.2, b7]
      refine br_f (nI_pos (by omega)) ⟨hin, pk_eq (qz_l T n) x (fun z => ⟨hin, pk_eq (qz_r T n) y (fun w => ?_) (fun w => ⟨hin, nm_e (ih (by omega) f (by omega) ?_)⟩) rfl rfl (by omega) (by omega)⟩) (fun z => ⟨hin, nm_e (ih (by omega) f (by omega) ?_)⟩) rfl rfl (by omega) (by omega)⟩
      · rw [qz_find, if_pos ⟨c.1, z, w⟩] at hp
        rw [qz_dbl]
        exact hp
      · rw [qz_find, if_neg (fun t => w t.2.2)] at hp
        exact hp
      · rw [qz_find, if_neg (fun t => z t.2.1)] at hp
        exact hp
    · rw [if_neg c]
      rw [qz_find, if_neg (fun t => c ⟨t.1, by unfold qz_pm; rw [t.2.1, t.2.2]⟩)] at hp
      exact ih (by omega) f (by omega) hp
theorem qw_f21 {post : Int32 → Prop} {x y : Nat} (hq : qz_ok pt a3 a4 a5 a6 a8 a9 a10 T) (hx : x < 64) (hy : y < 64) (hp : post (qz_oi (qz_find T x y T.length))) :
    wX_found_21 post (nI x) (nI y) c0 pt pn lc cl mv ts lv fa a1 a2 a3 a4 a5 a6 a7 a8 a9 a10 a11 a12 a13 a14 a15 a16 a17 a18 := by
  unfold wX_found_21 wpX_markOfPair
  refine ⟨qz_mpin _ _, nm_r (hq.2.2.2.1 _ (qz_mplt x y)) ⟨T.length + 1, qw_f40 hq hx hy T.length (Nat.le_refl _) _ (by omega) hp⟩⟩
theorem qw_found {post : Int32 → Prop} {x y : Nat} (hq : qz_ok pt a3 a4 a5 a6 a8 a9 a10 T) (hx : x < 64) (hy : y < 64) (hp : post (qz_oi (qz_found T x y))) :
    wpX_found post (c0, pt, pn, lc, cl, mv, ts, lv, fa, a1, a2, a3, a4, a5, a6, a7, a8, a9, a10, a11, a12, a13, a14, a15, a16, a17, a18) (nI x) (nI y) := by
  unfold wpX_found
  dsimp only
  unfold wX_found_10
  unfold qz_found at hp
  by_cases c : y ≤ x
  · rw [if_pos c] at hp
    have c' : nI y ≤ nI x := nI_le c (by omega)
    exact br_t c' (br_t c' (qw_f21 hq hy hx hp))
  · rw [if_neg c] at hp
    have c' : ¬ nI y ≤ nI x := nI_ge (by omega) (by omega)
    exact br_f c' (br_f c' (qw_f21 hq hx hy hp))
theorem qz_find_lt {a b r : Nat} : ∀ n, qz_find T a b n = some r → r < 2 * n := by
  intro n
  induction n with
  | zero => intro h; cases h
  | succ n ih =>
    intro h
    rw [qz_find] at h
    by_cases c : 9 ≤ n ∧ qz_l T n = a ∧ qz_r T n = b
    · rw [if_pos c] at h
      cases h
      omega
    · rw [if_neg c] at h
      have := ih h
      omega
theorem qz_found_lt {x y r : Nat} (h : qz_found T x y = some r) : r < 2 * T.length := by
  unfold qz_found at h
  by_cases c : y ≤ x
  · rw [if_pos c] at h
    exact qz_find_lt _ h
  · rw [if_neg c] at h
    exact qz_find_lt _ h
theorem qz_abs_lt {a b r : Nat} (ha : a < 2 * T.length) (hb : b < 2 * T.length) (h : qz_abs T a b = some r) : r < 2 * T.length := by
  unfold qz_abs at h
  repeat' split at h
  all_goals first
    | exact qz_found_lt h
    | (cases h; omega)
    | cases h
theorem qw_abs {post : Int32 → Prop} {a b : Nat} (hq : qz_ok pt a3 a4 a5 a6 a8 a9 a10 T) (ha : a < 2 * T.length) (hb : b < 2 * T.length) (hp : post (qz_oi (qz_abs T a b))) :
    wpX_absorbed post (c0, pt, pn, lc, cl, mv, ts, lv, fa, a1, a2, a3, a4, a5, a6, a7, a8, a9, a10, a11, a12, a13, a14, a15, a16, a17, a18) (nI a) (nI b) := by
  have q3 := hq.1.2.2
  have hb1 : b ^^^ 1 < 64 := qz_x1lt b (by omega)
  unfold qz_abs at hp
  unfold wpX_absorbed
  dsimp only
  refine qw_isAnd (by omega) (fun c => br_t rfl ?_) (fun c => br_f (by decide) ?_)
  · rw [if_pos c] at hp
    exact hp
  rw [if_neg (by omega)] at hp
  have b4 := hq.2.1 (a / 2) (by omega)
  have b5 := hq.2.2.1 (a / 2) c (by omega)
  have hin : vp_in (nI (a / 2)) 2560 := vp_in_nI (by omega) (by decide)
  rw [qz_an1 (show a < 64 by omega)]
  have key : ∀ z0 : Int32, (z0 = 0 ↔ ¬ a % 2 = 0) → wX_absorbed_21 post (nI a) (nI b) z0 c0 pt pn lc cl mv ts lv fa a1 a2 a3 a4 a5 a6 a7 a8 a9 a10 a11 a12 a13 a14 a15 a16 a17 a18 := by
    intro z0 hz
    unfold wX_absorbed_21
    rw [qz_x1, qz_shr (show a < 64 by omega), nI_clamp (show a / 2 < 2 ^ 31 by omega), b5.1, b5.2, qz_x1, qz_x1, qz_an1 (show b < 64 by omega)]
    refine qw_has hq ha c hb1 (fun h1 => br_f (by decide) ?_) (fun h1 => br_t rfl ?_)
    · rw [if_pos h1] at hp
      refine br_c (fun z => ?_) (fun z => ?_)
      · rw [if_neg (hz.mp z)] at hp
        exact hp
      · rw [if_pos (Decidable.of_not_not (fun t => z (hz.mpr t)))] at hp
        exact hp
    rw [if_neg h1] at hp
    refine qw_has hq ha c (by omega) (fun h2 => br_f (by decide) ?_) (fun h2 => br_t rfl ?_)
    · rw [if_pos h2] at hp
      refine br_c (fun z => ?_) (fun z => ?_)
      · rw [if_neg (hz.mp z)] at hp
        refine qw_oth hq ha c (by omega) (nm_r (qz_x1 _) (qw_found hq (by omega) (qz_x1lt _ ?_) hp))
        unfold qz_oth
        by_cases t : qz_l T (a / 2) = b
        · rw [if_pos t]; omega
        · rw [if_neg t]; omega
      · rw [if_pos (Decidable.of_not_not (fun t => z (hz.mpr t)))] at hp
        exact hp
    rw [if_neg h2] at hp
    refine br_c (fun z => ?_) (fun z => ?_)
    · rw [if_neg (hz.mp z)] at hp
      exact hp
    rw [if_pos (Decidable.of_not_not (fun t => z (hz.mpr t)))] at hp
    refine qw_isAnd (by omega) (fun d => br_t rfl ?_) (fun d => br_f (by decide) ?_)
    · rw [if_pos d] at hp
      exact hp
    rw [if_neg (by omega)] at hp
    refine pk_eq (b % 2) 0 (fun e => ⟨hin, ?_⟩) (fun e => ?_) rfl rfl (by omega) (by omega)
    · rw [if_pos e] at hp
      refine qw_has hq hb d (qz_x1lt _ b4.1) (fun h3 => br_f (by decide) ?_) (fun h3 => br_t rfl ⟨hin, ?_⟩)
      · rw [if_pos h3] at hp
        exact br_f (show ¬ (1 : Int32) = 0 by decide) hp
      rw [if_neg h3] at hp
      refine qw_has hq hb d (qz_x1lt _ b4.2.1) (fun h4 => br_f (by decide) ?_) (fun h4 => br_t rfl ?_)
      · rw [if_pos h4] at hp
        exact br_f (show ¬ (1 : Int32) = 0 by decide) hp
      · rw [if_neg h4] at hp
        exact br_t rfl hp
    · rw [if_neg e] at hp
      exact hp
  refine pk_eq (a % 2) 0 (fun e => key 1 ⟨fun t => absurd t (by decide), fun t => absurd e t⟩) (fun e => key 0 ⟨fun _ => e, fun _ => rfl⟩) rfl rfl (by omega) (by omega)
theorem qw_laws {post : Int32 → Prop} {a b : Nat} (hq : qz_ok pt a3 a4 a5 a6 a8 a9 a10 T) (ha : a < 2 * T.length) (hb : b < 2 * T.length) (hp : post (qz_oi (qz_laws T a b))) : wpX_byLaws post (c0, pt, pn, lc, cl, mv, ts, lv, fa, a1, a2, a3, a4, a5, a6, a7, a8, a9, a10, a11, a12, a13, a14, a15, a16, a17, a18) (nI a) (nI b) := by
  have q3 := hq.1.2.2
  have hb1 : b ^^^ 1 < 64 := qz_x1lt b (by omega)
  unfold qz_laws at hp
  unfold wpX_byLaws
  dsimp only
  rw [qz_x1]
  refine pk_eq a 0 (fun c => ?_) (fun c => pk_eq b 0 (fun d => ?_) (fun d => pk_eq a (b ^^^ 1) (fun e => ?_) (fun e => pk_eq a 1 (fun f => ?_) (fun f => pk_eq a b (fun g => ?_) (fun g => pk_eq b 1 (fun h => ?_) (fun h => ?_)))))) 
  · rw [if_pos c] at hp; exact hp
  · rw [if_neg c, if_pos d] at hp; exact hp
  · rw [if_neg c, if_neg d, if_pos e] at hp; exact hp
  · rw [if_neg c, if_neg d, if_neg e, if_pos f] at hp; exact hp
  · rw [if_neg c, if_neg d, if_neg e, if_neg f, if_pos g] at hp; exact hp
  · rw [if_neg c, if_neg d, if_neg e, if_neg f, if_neg g, if_pos h] at hp; exact hp
  · rw [if_neg c, if_neg d, if_neg e, if_neg f, if_neg g, if_neg h] at hp
    refine qw_abs hq ha hb ?_
    cases t : qz_abs T a b with
    | none =>
      rw [t] at hp
      exact br_t rfl (qw_abs hq hb ha hp)
    | some r =>
      rw [t] at hp
      exact br_f (qz_nm1 r (by have := qz_abs_lt ha hb t; omega)) hp
end
end
section
/-! walks: a part is added, and the AND of two ends -/
section
variable {c0 pt pn lc cl mv ts lv fa : Int32} {a1 a2 a3 a4 a5 a6 a7 : Nat → Int32} {a8 : Nat → Int64} {a9 a10 a11 a12 a13 a14 a15 a16 a17 a18 : Nat → Int32}
variable {T : qz_T}
theorem qw_enter {post : St2 → Prop} {p : Nat} (hp : p < 64) (H : post (c0, pt, pn, lc, cl, mv, ts, lv, fa, a1, a2, a3, a4, a5, a6, a7, a8, upd a9 (qz_ml (a8 p)) (nI p), upd a10 p (vp_nar .short (a9 (qz_ml (a8 p)))), a11, a12, a13, a14, a15, a16, a17, a18)) : wpX_enterLook post (c0, pt, pn, lc, cl, mv, ts, lv, fa, a1, a2, a3, a4, a5, a6, a7, a8, a9, a10, a11, a12, a13, a14, a15, a16, a17, a18) (nI p) := by
  unfold wpX_enterLook
  dsimp only
  have hin : vp_in (nI p) 2560 := vp_in_nI (by omega) (by decide)
  rw [nI_clamp (show p < 2 ^ 31 by omega), qz_sh p hp]
  exact ⟨hin, qw_ml ⟨qz_miin _, hin, nm_e ⟨qz_miin _, nm_e H⟩⟩⟩
theorem qw_enter_2 {post : St2 → Prop} {p : Nat} (hp : p < 64) (H : post (c0, pt, pn, lc, cl, mv, ts, lv, fa, a1, a2, a3, a4, a5, a6, a7, a8, upd a9 (qz_ml (a8 p)) (nI p), upd a10 p (vp_nar .short (a9 (qz_ml (a8 p)))), a11, a12, a13, a14, a15, a16, a17, a18)) : wpX_enterLook_2 post (c0, pt, pn, lc, cl, mv, ts, lv, fa, a1, a2, a3, a4, a5, a6, a7, a8, a9, a10, a11, a12, a13, a14, a15, a16, a17, a18) (nI p) := by
  unfold wpX_enterLook_2
  dsimp only
  have hin : vp_in (nI p) 2560 := vp_in_nI (by omega) (by decide)
  rw [nI_clamp (show p < 2 ^ 31 by omega), qz_sh p hp]
  exact ⟨hin, qw_ml ⟨qz_miin _, hin, nm_e ⟨qz_miin _, nm_e H⟩⟩⟩
theorem qw_enter_3 {post : St2 → Prop} {p : Nat} (hp : p < 64) (H : post (c0, pt, pn, lc, cl, mv, ts, lv, fa, a1, a2, a3, a4, a5, a6, a7, a8, upd a9 (qz_ml (a8 p)) (nI p), upd a10 p (vp_nar .short (a9 (qz_ml (a8 p)))), a11, a12, a13, a14, a15, a16, a17, a18)) : wpX_enterLook_3 post (c0, pt, pn, lc, cl, mv, ts, lv, fa, a1, a2, a3, a4, a5, a6, a7, a8, a9, a10, a11, a12, a13, a14, a15, a16, a17, a18) (nI p) := by
  unfold wpX_enterLook_3
  dsimp only
  have hin : vp_in (nI p) 2560 := vp_in_nI (by omega) (by decide)
  rw [nI_clamp (show p < 2 ^ 31 by omega), qz_sh p hp]
  exact ⟨hin, qw_ml ⟨qz_miin _, hin, nm_e ⟨qz_miin _, nm_e H⟩⟩⟩
theorem qw_addPart {post : Int32 → St2 → Prop} {x y : Nat} (hq : qz_ok pt a3 a4 a5 a6 a8 a9 a10 T) (hx : x < 2 * T.length) (hy : y < 2 * T.length) (hl : T.length < 30)
    (H : ∀ pt' a3' a4' a5' a6' a8' a9' a10', qz_ok pt' a3' a4' a5' a6' a8' a9' a10' (T ++ [(x, y, qz_lkE T x &&& qz_lkE T y)]) → post (nI T.length) (c0, pt', pn, lc, cl, mv, ts, lv, fa, a1, a2, a3', a4', a5', a6', a7, a8', a9', a10', a11, a12, a13, a14, a15, a16, a17, a18)) :
    wpX_addPart post (c0, pt, pn, lc, cl, mv, ts, lv, fa, a1, a2, a3, a4, a5, a6, a7, a8, a9, a10, a11, a12, a13, a14, a15, a16, a17, a18) (nI x) (nI y) := by
  have ad := qz_add (K := qz_lkE T x &&& qz_lkE T y) hq hl (show x < 64 by omega) (show y < 64 by omega)
  have q1 := hq.1.1
  have kx := (hq.2.1 (x / 2) (by omega)).2.2
  have ky := (hq.2.1 (y / 2) (by omega)).2.2
  have hin : vp_in (nI T.length) 2560 := vp_in_nI (by omega) (by decide)
  unfold wpX_addPart wpX_markOfPair
  dsimp only
  rw [q1] at ad ⊢
  rw [nI_clamp (show T.length < 2 ^ 31 by omega), qz_sh x (by omega), qz_sh y (by omega), qz_sh T.length (by omega)]
  refine nm_e ⟨hin, nm_e ⟨hin, nm_e ⟨qz_mpin _ _, hin, nm_e ⟨qz_mpin _ _, nm_e ?_⟩⟩⟩⟩
  refine qw_loe (T := T) (by omega) kx (qw_loe (T := T) (by omega) ky ⟨hin, nm_e ?_⟩)
  refine qw_enter_2 (by omega) ?_
  rw [pk_uLs]
  exact H _ _ _ _ _ _ _ _ ad
theorem qw_s28 {post : Int32 → St2 → Prop} {p m : Nat} {own : Int64} (hq : qz_ok pt a3 a4 a5 a6 a8 a9 a10 T) (hp : p < T.length) (hd : ∀ q, q < p → ¬ qz_neu (qz_k T q) = own)
    (H : post (-1) (c0, pt, pn, lc, cl, mv, ts, lv, fa, a1, a2, a3, a4, a5, a6, a7, a8, a9, a10, a11, a12, a13, a14, a15, a16, a17, a18)) : ∀ n, n ≤ T.length → ∀ f, n < f → wX_sweep_28 post (nI p) own f 0 (qz_last (qz_lm T) 0 m n) c0 pt pn lc cl mv ts lv fa a1 a2 a3 a4 a5 a6 a7 a8 a9 a10 a11 a12 a13 a14 a15 a16 a17 a18 := by
  obtain ⟨⟨q1, q2, q3⟩, q4, _, _, _, _, q9⟩ := hq
  intro n
  induction n with
  | zero =>
    intro _ f hf
    obtain ⟨f, rfl⟩ : ∃ g, f = g + 1 := ⟨f - 1, by omega⟩
    exact br_t (show (-1 : Int32) < 0 by decide) (br_t rfl H)
  | succ n ih =>
    intro hn f hf
    rw [qz_last_s]
    by_cases c : 0 ≤ n ∧ qz_lm T n = m
    · rw [if_pos c]
      obtain ⟨f, rfl⟩ : ∃ g, f = g + 1 := ⟨f - 1, by omega⟩
      have b4 := q4 n (by omega)
      have b9 := q9 n (by omega)
      rw [c.2] at b9
      have hin : vp_in (nI n) 2560 := vp_in_nI (by omega) (by decide)
      unfold wX_sweep_28
      rw [nI_clamp (show n < 2 ^ 31 by omega), b4.2.2, b9]
      refine br_f (nI_pos (by omega)) (pk_le p n (fun z => ⟨hin, nm_e (ih (by omega) f (by omega))⟩) (fun z => ⟨hin, qw_neu (br_f (hd n z) ⟨hin, nm_e (ih (by omega) f (by omega))⟩)⟩) rfl rfl (by omega) (by omega))
    · rw [if_neg c]
      exact ih (by omega) f (by omega)
theorem qw_sweep {post : Int32 → St2 → Prop} {p : Nat} (hq : qz_ok pt a3 a4 a5 a6 a8 a9 a10 T) (hp : p < T.length) (hd : ∀ q, q < p → ¬ qz_neu (qz_k T q) = qz_neu (qz_k T p))
    (H : post (-1) (c0, pt, pn, lc, cl, mv, ts, lv, fa, a1, a2, a3, a4, a5, a6, a7, a8, a9, a10, a11, a12, a13, a14, a15, a16, a17, a18)) : wpX_sweep post (c0, pt, pn, lc, cl, mv, ts, lv, fa, a1, a2, a3, a4, a5, a6, a7, a8, a9, a10, a11, a12, a13, a14, a15, a16, a17, a18) (nI p) := by
  have q3 := hq.1.2.2
  have hin : vp_in (nI p) 2560 := vp_in_nI (by omega) (by decide)
  unfold wpX_sweep
  dsimp only
  rw [nI_clamp (show p < 2 ^ 31 by omega), (hq.2.1 p hp).2.2]
  exact ⟨hin, qw_neu (qw_ml ⟨qz_miin _, nm_r (hq.2.2.2.2.2.1 _ (qz_mllt _)) ⟨T.length + 1, qw_s28 hq hp hd H T.length (Nat.le_refl _) _ (by omega)⟩⟩)⟩
theorem qw_a47 {post : Int32 → St2 → Prop} {x y r : Nat} {T1 : qz_T} (hq : qz_ok pt a3 a4 a5 a6 a8 a9 a10 T) (hx : x < 2 * T.length) (hy : y < 2 * T.length) (hm : qz_new T x y = some (r, T1))
    (H : ∀ pt' a3' a4' a5' a6' a8' a9' a10', qz_ok pt' a3' a4' a5' a6' a8' a9' a10' T1 → post (nI r) (c0, pt', pn, lc, cl, mv, ts, lv, fa, a1, a2, a3', a4', a5', a6', a7, a8', a9', a10', a11, a12, a13, a14, a15, a16, a17, a18)) :
    wX_and_47 post (nI x) (nI y) (-1) c0 pt pn lc cl mv ts lv fa a1 a2 a3 a4 a5 a6 a7 a8 a9 a10 a11 a12 a13 a14 a15 a16 a17 a18 := by
  unfold qz_new at hm
  by_cases c : T.length < 30 ∧ (T.all (fun e => qz_neu e.2.2 != qz_neu (qz_lkE T x &&& qz_lkE T y))) = true
  · rw [if_pos c] at hm
    cases hm
    obtain ⟨hl, hd⟩ := c
    unfold wX_and_47
    refine br_t rfl (qw_addPart hq hx hy hl (fun pt' a3' a4' a5' a6' a8' a9' a10' ok => ?_))
    dsimp only
    refine qw_sweep ok (by simp) (fun q hq' => ?_) (br_t rfl ?_)
    · have e1 : qz_k (T ++ [(x, y, qz_lkE T x &&& qz_lkE T y)]) T.length = qz_lkE T x &&& qz_lkE T y := by unfold qz_k; rw [qz_l_new]
      have e2 : qz_k (T ++ [(x, y, qz_lkE T x &&& qz_lkE T y)]) q = qz_k T q := by unfold qz_k; rw [qz_l_app hq']
      rw [e1, e2]
      have hm := List.all_eq_true.mp hd (T[q]) (List.getElem_mem hq')
      have e3 : qz_k T q = (T[q]).2.2 := by unfold qz_k; simp [List.getD, hq']
      rw [e3]
      simpa using hm
    · rw [qz_dbl]
      exact H _ _ _ _ _ _ _ _ ok
  · rw [if_neg c] at hm
    cases hm
theorem qw_a21 {post : Int32 → St2 → Prop} {x y r : Nat} {T1 : qz_T} (hq : qz_ok pt a3 a4 a5 a6 a8 a9 a10 T) (hx : x < 2 * T.length) (hy : y < 2 * T.length) (hm : qz_and2 T x y = some (r, T1))
    (H : ∀ pt' a3' a4' a5' a6' a8' a9' a10', qz_ok pt' a3' a4' a5' a6' a8' a9' a10' T1 → post (nI r) (c0, pt', pn, lc, cl, mv, ts, lv, fa, a1, a2, a3', a4', a5', a6', a7, a8', a9', a10', a11, a12, a13, a14, a15, a16, a17, a18)) :
    wX_and_21 post (nI x) (nI y) c0 pt pn lc cl mv ts lv fa a1 a2 a3 a4 a5 a6 a7 a8 a9 a10 a11 a12 a13 a14 a15 a16 a17 a18 := by
  have q3 := hq.1.2.2
  have keep : ∀ s, qz_keep T s = some (r, T1) → (¬ nI s = -1) ∧ wX_and_47 post (nI x) (nI y) (nI s) c0 pt pn lc cl mv ts lv fa a1 a2 a3 a4 a5 a6 a7 a8 a9 a10 a11 a12 a13 a14 a15 a16 a17 a18 := by
    intro s hs
    unfold qz_keep at hs
    by_cases c : s < 64
    · rw [if_pos c] at hs
      cases hs
      unfold wX_and_47
      exact ⟨qz_nm1 _ c, br_f (qz_nm1 _ c) (H _ _ _ _ _ _ _ _ hq)⟩
    · rw [if_neg c] at hs
      cases hs
  unfold qz_and2 at hm
  unfold wX_and_21
  refine qw_laws hq hx hy ?_
  cases t : qz_laws T x y with
  | some s =>
    rw [t] at hm
    exact br_f (keep s hm).1 (keep s hm).2
  | none =>
    rw [t] at hm
    refine br_t rfl (qw_found hq (by omega) (by omega) ?_)
    cases w : qz_found T x y with
    | some s =>
      rw [w] at hm
      exact (keep s hm).2
    | none =>
      rw [w] at hm
      exact qw_a47 hq hx hy hm H
theorem qw_and {post : Int32 → St2 → Prop} {x y r : Nat} {T1 : qz_T} (hq : qz_ok pt a3 a4 a5 a6 a8 a9 a10 T) (hm : qz_and T x y = some (r, T1))
    (H : ∀ pt' a3' a4' a5' a6' a8' a9' a10', qz_ok pt' a3' a4' a5' a6' a8' a9' a10' T1 → post (nI r) (c0, pt', pn, lc, cl, mv, ts, lv, fa, a1, a2, a3', a4', a5', a6', a7, a8', a9', a10', a11, a12, a13, a14, a15, a16, a17, a18)) :
    wpX_and post (c0, pt, pn, lc, cl, mv, ts, lv, fa, a1, a2, a3, a4, a5, a6, a7, a8, a9, a10, a11, a12, a13, a14, a15, a16, a17, a18) (nI x) (nI y) := by
  have q3 := hq.1.2.2
  unfold qz_and at hm
  by_cases c : x < 2 * T.length ∧ y < 2 * T.length
  · rw [if_pos c] at hm
    unfold wpX_and
    dsimp only
    unfold wX_and_10
    by_cases d : y ≤ x
    · rw [if_pos d] at hm
      have d' : nI y ≤ nI x := nI_le d (by omega)
      exact br_t d' (br_t d' (qw_a21 hq c.2 c.1 hm H))
    · rw [if_neg d] at hm
      have d' : ¬ nI y ≤ nI x := nI_ge (by omega) (by omega)
      exact br_f d' (br_f d' (qw_a21 hq c.1 c.2 hm H))
  · rw [if_neg c] at hm
    cases hm
theorem qw_addPart_2 {post : Int32 → St2 → Prop} {x y : Nat} (hq : qz_ok pt a3 a4 a5 a6 a8 a9 a10 T) (hx : x < 2 * T.length) (hy : y < 2 * T.length) (hl : T.length < 30)
    (H : ∀ pt' a3' a4' a5' a6' a8' a9' a10', qz_ok pt' a3' a4' a5' a6' a8' a9' a10' (T ++ [(x, y, qz_lkE T x &&& qz_lkE T y)]) → post (nI T.length) (c0, pt', pn, lc, cl, mv, ts, lv, fa, a1, a2, a3', a4', a5', a6', a7, a8', a9', a10', a11, a12, a13, a14, a15, a16, a17, a18)) :
    wpX_addPart_2 post (c0, pt, pn, lc, cl, mv, ts, lv, fa, a1, a2, a3, a4, a5, a6, a7, a8, a9, a10, a11, a12, a13, a14, a15, a16, a17, a18) (nI x) (nI y) := by
  have ad := qz_add (K := qz_lkE T x &&& qz_lkE T y) hq hl (show x < 64 by omega) (show y < 64 by omega)
  have q1 := hq.1.1
  have kx := (hq.2.1 (x / 2) (by omega)).2.2
  have ky := (hq.2.1 (y / 2) (by omega)).2.2
  have hin : vp_in (nI T.length) 2560 := vp_in_nI (by omega) (by decide)
  unfold wpX_addPart_2 wpX_markOfPair
  dsimp only
  rw [q1] at ad ⊢
  rw [nI_clamp (show T.length < 2 ^ 31 by omega), qz_sh x (by omega), qz_sh y (by omega), qz_sh T.length (by omega)]
  refine nm_e ⟨hin, nm_e ⟨hin, nm_e ⟨qz_mpin _ _, hin, nm_e ⟨qz_mpin _ _, nm_e ?_⟩⟩⟩⟩
  refine qw_loe (T := T) (by omega) kx (qw_loe (T := T) (by omega) ky ⟨hin, nm_e ?_⟩)
  refine qw_enter_3 (by omega) ?_
  rw [pk_uLs]
  exact H _ _ _ _ _ _ _ _ ad
theorem qw_s28_2 {post : Int32 → St2 → Prop} {p m : Nat} {own : Int64} (hq : qz_ok pt a3 a4 a5 a6 a8 a9 a10 T) (hp : p < T.length) (hd : ∀ q, q < p → ¬ qz_neu (qz_k T q) = own)
    (H : post (-1) (c0, pt, pn, lc, cl, mv, ts, lv, fa, a1, a2, a3, a4, a5, a6, a7, a8, a9, a10, a11, a12, a13, a14, a15, a16, a17, a18)) : ∀ n, n ≤ T.length → ∀ f, n < f → wX_sweep_2_28 post (nI p) own f 0 (qz_last (qz_lm T) 0 m n) c0 pt pn lc cl mv ts lv fa a1 a2 a3 a4 a5 a6 a7 a8 a9 a10 a11 a12 a13 a14 a15 a16 a17 a18 := by
  obtain ⟨⟨q1, q2, q3⟩, q4, _, _, _, _, q9⟩ := hq
  intro n
  induction n with
  | zero =>
    intro _ f hf
    obtain ⟨f, rfl⟩ : ∃ g, f = g + 1 := ⟨f - 1, by omega⟩
    exact br_t (show (-1 : Int32) < 0 by decide) (br_t rfl H)
  | succ n ih =>
    intro hn f hf
    rw [qz_last_s]
    by_cases c : 0 ≤ n ∧ qz_lm T n = m
    · rw [if_pos c]
      obtain ⟨f, rfl⟩ : ∃ g, f = g + 1 := ⟨f - 1, by omega⟩
      have b4 := q4 n (by omega)
      have b9 := q9 n (by omega)
      rw [c.2] at b9
      have hin : vp_in (nI n) 2560 := vp_in_nI (by omega) (by decide)
      unfold wX_sweep_2_28
      rw [nI_clamp (show n < 2 ^ 31 by omega), b4.2.2, b9]
      refine br_f (nI_pos (by omega)) (pk_le p n (fun z => ⟨hin, nm_e (ih (by omega) f (by omega))⟩) (fun z => ⟨hin, qw_neu (br_f (hd n z) ⟨hin, nm_e (ih (by omega) f (by omega))⟩)⟩) rfl rfl (by omega) (by omega))
    · rw [if_neg c]
      exact ih (by omega) f (by omega)
theorem qw_sweep_2 {post : Int32 → St2 → Prop} {p : Nat} (hq : qz_ok pt a3 a4 a5 a6 a8 a9 a10 T) (hp : p < T.length) (hd : ∀ q, q < p → ¬ qz_neu (qz_k T q) = qz_neu (qz_k T p))
    (H : post (-1) (c0, pt, pn, lc, cl, mv, ts, lv, fa, a1, a2, a3, a4, a5, a6, a7, a8, a9, a10, a11, a12, a13, a14, a15, a16, a17, a18)) : wpX_sweep_2 post (c0, pt, pn, lc, cl, mv, ts, lv, fa, a1, a2, a3, a4, a5, a6, a7, a8, a9, a10, a11, a12, a13, a14, a15, a16, a17, a18) (nI p) := by
  have q3 := hq.1.2.2
  have hin : vp_in (nI p) 2560 := vp_in_nI (by omega) (by decide)
  unfold wpX_sweep_2
  dsimp only
  rw [nI_clamp (show p < 2 ^ 31 by omega), (hq.2.1 p hp).2.2]
  exact ⟨hin, qw_neu (qw_ml ⟨qz_miin _, nm_r (hq.2.2.2.2.2.1 _ (qz_mllt _)) ⟨T.length + 1, qw_s28_2 hq hp hd H T.length (Nat.le_refl _) _ (by omega)⟩⟩)⟩
theorem qw_a47_2 {post : Int32 → St2 → Prop} {x y r : Nat} {T1 : qz_T} (hq : qz_ok pt a3 a4 a5 a6 a8 a9 a10 T) (hx : x < 2 * T.length) (hy : y < 2 * T.length) (hm : qz_new T x y = some (r, T1))
    (H : ∀ pt' a3' a4' a5' a6' a8' a9' a10', qz_ok pt' a3' a4' a5' a6' a8' a9' a10' T1 → post (nI r) (c0, pt', pn, lc, cl, mv, ts, lv, fa, a1, a2, a3', a4', a5', a6', a7, a8', a9', a10', a11, a12, a13, a14, a15, a16, a17, a18)) :
    wX_and_2_47 post (nI x) (nI y) (-1) c0 pt pn lc cl mv ts lv fa a1 a2 a3 a4 a5 a6 a7 a8 a9 a10 a11 a12 a13 a14 a15 a16 a17 a18 := by
  unfold qz_new at hm
  by_cases c : T.length < 30 ∧ (T.all (fun e => qz_neu e.2.2 != qz_neu (qz_lkE T x &&& qz_lkE T y))) = true
  · rw [if_pos c] at hm
    cases hm
    obtain ⟨hl, hd⟩ := c
    unfold wX_and_2_47
    refine br_t rfl (qw_addPart_2 hq hx hy hl (fun pt' a3' a4' a5' a6' a8' a9' a10' ok => ?_))
    dsimp only
    refine qw_sweep_2 ok (by simp) (fun q hq' => ?_) (br_t rfl ?_)
    · have e1 : qz_k (T ++ [(x, y, qz_lkE T x &&& qz_lkE T y)]) T.length = qz_lkE T x &&& qz_lkE T y := by unfold qz_k; rw [qz_l_new]
      have e2 : qz_k (T ++ [(x, y, qz_lkE T x &&& qz_lkE T y)]) q = qz_k T q := by unfold qz_k; rw [qz_l_app hq']
      rw [e1, e2]
      have hm := List.all_eq_true.mp hd (T[q]) (List.getElem_mem hq')
      have e3 : qz_k T q = (T[q]).2.2 := by unfold qz_k; simp [List.getD, hq']
      rw [e3]
      simpa using hm
    · rw [qz_dbl]
      exact H _ _ _ _ _ _ _ _ ok
  · rw [if_neg c] at hm
    cases hm
theorem qw_a21_2 {post : Int32 → St2 → Prop} {x y r : Nat} {T1 : qz_T} (hq : qz_ok pt a3 a4 a5 a6 a8 a9 a10 T) (hx : x < 2 * T.length) (hy : y < 2 * T.length) (hm : qz_and2 T x y = some (r, T1))
    (H : ∀ pt' a3' a4' a5' a6' a8' a9' a10', qz_ok pt' a3' a4' a5' a6' a8' a9' a10' T1 → post (nI r) (c0, pt', pn, lc, cl, mv, ts, lv, fa, a1, a2, a3', a4', a5', a6', a7, a8', a9', a10', a11, a12, a13, a14, a15, a16, a17, a18)) :
    wX_and_2_21 post (nI x) (nI y) c0 pt pn lc cl mv ts lv fa a1 a2 a3 a4 a5 a6 a7 a8 a9 a10 a11 a12 a13 a14 a15 a16 a17 a18 := by
  have q3 := hq.1.2.2
  have keep : ∀ s, qz_keep T s = some (r, T1) → (¬ nI s = -1) ∧ wX_and_2_47 post (nI x) (nI y) (nI s) c0 pt pn lc cl mv ts lv fa a1 a2 a3 a4 a5 a6 a7 a8 a9 a10 a11 a12 a13 a14 a15 a16 a17 a18 := by
    intro s hs
    unfold qz_keep at hs
    by_cases c : s < 64
    · rw [if_pos c] at hs
      cases hs
      unfold wX_and_2_47
      exact ⟨qz_nm1 _ c, br_f (qz_nm1 _ c) (H _ _ _ _ _ _ _ _ hq)⟩
    · rw [if_neg c] at hs
      cases hs
  unfold qz_and2 at hm
  unfold wX_and_2_21
  refine qw_laws hq hx hy ?_
  cases t : qz_laws T x y with
  | some s =>
    rw [t] at hm
    exact br_f (keep s hm).1 (keep s hm).2
  | none =>
    rw [t] at hm
    refine br_t rfl (qw_found hq (by omega) (by omega) ?_)
    cases w : qz_found T x y with
    | some s =>
      rw [w] at hm
      exact (keep s hm).2
    | none =>
      rw [w] at hm
      exact qw_a47_2 hq hx hy hm H
theorem qw_and_2 {post : Int32 → St2 → Prop} {x y r : Nat} {T1 : qz_T} (hq : qz_ok pt a3 a4 a5 a6 a8 a9 a10 T) (hm : qz_and T x y = some (r, T1))
    (H : ∀ pt' a3' a4' a5' a6' a8' a9' a10', qz_ok pt' a3' a4' a5' a6' a8' a9' a10' T1 → post (nI r) (c0, pt', pn, lc, cl, mv, ts, lv, fa, a1, a2, a3', a4', a5', a6', a7, a8', a9', a10', a11, a12, a13, a14, a15, a16, a17, a18)) :
    wpX_and_2 post (c0, pt, pn, lc, cl, mv, ts, lv, fa, a1, a2, a3, a4, a5, a6, a7, a8, a9, a10, a11, a12, a13, a14, a15, a16, a17, a18) (nI x) (nI y) := by
  have q3 := hq.1.2.2
  unfold qz_and at hm
  by_cases c : x < 2 * T.length ∧ y < 2 * T.length
  · rw [if_pos c] at hm
    unfold wpX_and_2
    dsimp only
    unfold wX_and_2_10
    by_cases d : y ≤ x
    · rw [if_pos d] at hm
      have d' : nI y ≤ nI x := nI_le d (by omega)
      exact br_t d' (br_t d' (qw_a21_2 hq c.2 c.1 hm H))
    · rw [if_neg d] at hm
      have d' : ¬ nI y ≤ nI x := nI_ge (by omega) (by omega)
      exact br_f d' (br_f d' (qw_a21_2 hq c.1 c.2 hm H))
  · rw [if_neg c] at hm
    cases hm
end
end
section
/-! walks of the gates -/
section
variable {c0 pt pn lc cl mv ts lv fa : Int32} {a1 a2 a3 a4 a5 a6 a7 : Nat → Int32} {a8 : Nat → Int64} {a9 a10 a11 a12 a13 a14 a15 a16 a17 a18 : Nat → Int32}
variable {T : qz_T}
theorem qw_or {post : Int32 → St2 → Prop} {x y r : Nat} {T1 : qz_T} (hq : qz_ok pt a3 a4 a5 a6 a8 a9 a10 T) (hm : qz_or T x y = some (r, T1))
    (H : ∀ pt' a3' a4' a5' a6' a8' a9' a10', qz_ok pt' a3' a4' a5' a6' a8' a9' a10' T1 → post (nI r) (c0, pt', pn, lc, cl, mv, ts, lv, fa, a1, a2, a3', a4', a5', a6', a7, a8', a9', a10', a11, a12, a13, a14, a15, a16, a17, a18)) :
    wpX_or post (c0, pt, pn, lc, cl, mv, ts, lv, fa, a1, a2, a3, a4, a5, a6, a7, a8, a9, a10, a11, a12, a13, a14, a15, a16, a17, a18) (nI x) (nI y) := by
  unfold qz_or at hm
  unfold wpX_or
  dsimp only
  rw [qz_x1, qz_x1]
  cases t : qz_and T (x ^^^ 1) (y ^^^ 1) with
  | none => rw [t] at hm; cases hm
  | some w =>
    obtain ⟨s, T2⟩ := w
    rw [t] at hm
    cases hm
    refine qw_and hq t (fun pt' a3' a4' a5' a6' a8' a9' a10' ok => ?_)
    dsimp only
    rw [qz_x1]
    exact H _ _ _ _ _ _ _ _ ok
theorem qw_xor {post : Int32 → St2 → Prop} {x y r : Nat} {T1 : qz_T} (hq : qz_ok pt a3 a4 a5 a6 a8 a9 a10 T) (hm : qz_two T x (y ^^^ 1) (x ^^^ 1) y = some (r, T1))
    (H : ∀ pt' a3' a4' a5' a6' a8' a9' a10', qz_ok pt' a3' a4' a5' a6' a8' a9' a10' T1 → post (nI r) (c0, pt', pn, lc, cl, mv, ts, lv, fa, a1, a2, a3', a4', a5', a6', a7, a8', a9', a10', a11, a12, a13, a14, a15, a16, a17, a18)) :
    wpX_xor post (c0, pt, pn, lc, cl, mv, ts, lv, fa, a1, a2, a3, a4, a5, a6, a7, a8, a9, a10, a11, a12, a13, a14, a15, a16, a17, a18) (nI x) (nI y) := by
  unfold qz_two at hm
  unfold wpX_xor
  dsimp only
  rw [qz_x1, qz_x1]
  cases t : qz_and T x (y ^^^ 1) with
  | none => rw [t] at hm; cases hm
  | some w =>
    obtain ⟨s, T2⟩ := w
    rw [t] at hm
    dsimp only at hm
    refine qw_and hq t (fun pt' a3' a4' a5' a6' a8' a9' a10' ok => ?_)
    dsimp only
    cases t2 : qz_and T2 (x ^^^ 1) y with
    | none => rw [t2] at hm; cases hm
    | some w2 =>
      obtain ⟨s2, T3⟩ := w2
      rw [t2] at hm
      dsimp only at hm
      refine qw_and ok t2 (fun pt'' a3'' a4'' a5'' a6'' a8'' a9'' a10'' ok2 => ?_)
      dsimp only
      refine qw_or ok2 hm (fun pt3 b3 b4 b5 b6 b8 b9 b10 ok3 => ?_)
      exact H _ _ _ _ _ _ _ _ ok3
theorem qw_choose {post : Int32 → St2 → Prop} {x y z r : Nat} {T1 : qz_T} (hq : qz_ok pt a3 a4 a5 a6 a8 a9 a10 T) (hm : qz_two T x y (x ^^^ 1) z = some (r, T1))
    (H : ∀ pt' a3' a4' a5' a6' a8' a9' a10', qz_ok pt' a3' a4' a5' a6' a8' a9' a10' T1 → post (nI r) (c0, pt', pn, lc, cl, mv, ts, lv, fa, a1, a2, a3', a4', a5', a6', a7, a8', a9', a10', a11, a12, a13, a14, a15, a16, a17, a18)) :
    wpX_choose post (c0, pt, pn, lc, cl, mv, ts, lv, fa, a1, a2, a3, a4, a5, a6, a7, a8, a9, a10, a11, a12, a13, a14, a15, a16, a17, a18) (nI x) (nI y) (nI z) := by
  unfold qz_two at hm
  unfold wpX_choose
  dsimp only
  rw [qz_x1]
  cases t : qz_and T x y with
  | none => rw [t] at hm; cases hm
  | some w =>
    obtain ⟨s, T2⟩ := w
    rw [t] at hm
    dsimp only at hm
    refine qw_and hq t (fun pt' a3' a4' a5' a6' a8' a9' a10' ok => ?_)
    dsimp only
    cases t2 : qz_and T2 (x ^^^ 1) z with
    | none => rw [t2] at hm; cases hm
    | some w2 =>
      obtain ⟨s2, T3⟩ := w2
      rw [t2] at hm
      dsimp only at hm
      refine qw_and ok t2 (fun pt'' a3'' a4'' a5'' a6'' a8'' a9'' a10'' ok2 => ?_)
      dsimp only
      refine qw_or ok2 hm (fun pt3 b3 b4 b5 b6 b8 b9 b10 ok3 => ?_)
      exact H _ _ _ _ _ _ _ _ ok3
theorem qw_neg {w : Option (Nat × qz_T)} {r : Nat} {T1 : qz_T} (h : qz_neg w = some (r, T1)) : ∃ s, w = some (s, T1) ∧ r = s ^^^ 1 := by
  cases w with
  | none => cases h
  | some v =>
    obtain ⟨s, T2⟩ := v
    cases h
    exact ⟨s, rfl, rfl⟩
theorem qw_end {post : Int32 → St2 → Prop} {kind x y z r : Nat} {T1 : qz_T} (hq : qz_ok pt a3 a4 a5 a6 a8 a9 a10 T) (hm : qz_end T kind x y z = some (r, T1))
    (H : ∀ pt' a3' a4' a5' a6' a8' a9' a10', qz_ok pt' a3' a4' a5' a6' a8' a9' a10' T1 → post (nI r) (c0, pt', pn, lc, cl, mv, ts, lv, fa, a1, a2, a3', a4', a5', a6', a7, a8', a9', a10', a11, a12, a13, a14, a15, a16, a17, a18)) :
    wpX_endFor post (c0, pt, pn, lc, cl, mv, ts, lv, fa, a1, a2, a3, a4, a5, a6, a7, a8, a9, a10, a11, a12, a13, a14, a15, a16, a17, a18) (nI kind) (nI x) (nI y) (nI z) := by
  unfold wpX_endFor
  dsimp only
  match kind, hm with
  | 0, hm =>
    refine br_f (by decide) (br_f (by decide) (br_t (by decide) ?_))
    exact qw_and hq hm (fun pt' a3' a4' a5' a6' a8' a9' a10' ok => H _ _ _ _ _ _ _ _ ok)
  | 1, hm =>
    refine br_f (by decide) (br_f (by decide) (br_f (by decide) (br_t (by decide) ?_)))
    exact qw_or hq hm (fun pt' a3' a4' a5' a6' a8' a9' a10' ok => H _ _ _ _ _ _ _ _ ok)
  | 2, hm =>
    refine br_f (by decide) (br_f (by decide) (br_f (by decide) (br_f (by decide) (br_t (by decide) ?_))))
    exact qw_xor hq hm (fun pt' a3' a4' a5' a6' a8' a9' a10' ok => H _ _ _ _ _ _ _ _ ok)
  | 3, hm =>
    refine br_f (by decide) (br_f (by decide) (br_f (by decide) (br_f (by decide) (br_f (by decide) (br_t (by decide) ?_)))))
    obtain ⟨s, e, rfl⟩ := qw_neg hm
    refine qw_and hq e (fun pt' a3' a4' a5' a6' a8' a9' a10' ok => ?_)
    dsimp only
    rw [qz_x1]
    exact H _ _ _ _ _ _ _ _ ok
  | 4, hm =>
    refine br_f (by decide) (br_f (by decide) (br_f (by decide) (br_f (by decide) (br_f (by decide) (br_f (by decide) (br_t (by decide) ?_))))))
    obtain ⟨s, e, rfl⟩ := qw_neg hm
    refine qw_or hq e (fun pt' a3' a4' a5' a6' a8' a9' a10' ok => ?_)
    dsimp only
    rw [qz_x1]
    exact H _ _ _ _ _ _ _ _ ok
  | 5, hm =>
    refine br_f (by decide) (br_f (by decide) (br_f (by decide) (br_f (by decide) (br_f (by decide) (br_f (by decide) (br_f (by decide) (br_t (by decide) ?_)))))))
    obtain ⟨s, e, rfl⟩ := qw_neg hm
    refine qw_xor hq e (fun pt' a3' a4' a5' a6' a8' a9' a10' ok => ?_)
    dsimp only
    rw [qz_x1]
    exact H _ _ _ _ _ _ _ _ ok
  | 6, hm =>
    refine br_f (by decide) (br_f (by decide) (br_f (by decide) (br_f (by decide) (br_f (by decide) (br_f (by decide) (br_f (by decide) (br_f (by decide) (br_t (by decide) ?_))))))))
    obtain ⟨s, e, rfl⟩ := qw_neg hm
    rw [qz_x1]
    refine qw_and hq e (fun pt' a3' a4' a5' a6' a8' a9' a10' ok => ?_)
    dsimp only
    rw [qz_x1]
    exact H _ _ _ _ _ _ _ _ ok
  | 7, hm =>
    refine br_f (by decide) (br_f (by decide) (br_f (by decide) (br_f (by decide) (br_f (by decide) (br_f (by decide) (br_f (by decide) (br_f (by decide) (br_f (by decide) (br_t (by decide) ?_)))))))))
    exact qw_choose hq hm (fun pt' a3' a4' a5' a6' a8' a9' a10' ok => H _ _ _ _ _ _ _ _ ok)
  | k + 8, hm => cases hm
/-- the wires match E -/
def qz_ew (c0 : Int32) (a1 : Nat → Int32) (E : List Nat) : Prop := c0 = nI E.length ∧ E.length ≤ 40 ∧ ∀ k, k < E.length → a1 k = nI (E.getD k 0) ∧ E.getD k 0 < 64
theorem qz_ew_add {E : List Nat} {r : Nat} (h : qz_ew c0 a1 E) (hl : E.length < 40) (hr : r < 64) : qz_ew (c0 + 1) (upd a1 E.length (nI r)) (E ++ [r]) := by
  obtain ⟨h1, h2, h3⟩ := h
  have L : (E ++ [r]).length = E.length + 1 := by simp
  unfold qz_ew
  rw [L]
  refine ⟨by rw [h1, nI_1], by omega, fun k hk => ?_⟩
  by_cases e : k = E.length
  · have : (E ++ [r]).getD E.length 0 = r := by simp [List.getD]
    rw [e, pk_us, this]
    exact ⟨rfl, hr⟩
  · have hk' : k < E.length := by omega
    have : (E ++ [r]).getD k 0 = E.getD k 0 := by simp [List.getD, List.getElem?_append_left hk']
    rw [pk_un e, this]
    exact h3 k hk'
theorem qw_wire {post : Int32 → Prop} {E : List Nat} {k : Nat} (hw : qz_ew c0 a1 E) (hk : k < E.length) (h : post 1) : wpX_isWire post (c0, pt, pn, lc, cl, mv, ts, lv, fa, a1, a2, a3, a4, a5, a6, a7, a8, a9, a10, a11, a12, a13, a14, a15, a16, a17, a18) (nI k) := by
  obtain ⟨h1, h2, h3⟩ := hw
  unfold wpX_isWire
  dsimp only
  rw [h1]
  exact br_f (nI_pos (by omega)) (br_f (nI_ge hk (by omega)) h)
theorem qw_g72 {post : Int32 → St2 → Prop} {E : List Nat} {kind x y z r : Nat} {T1 : qz_T} (hw : qz_ew c0 a1 E) (hq : qz_ok pt a3 a4 a5 a6 a8 a9 a10 T) (hx : x < E.length) (hy : y < E.length) (hl : E.length < 40)
    (hm : qz_end T kind (E.getD x 0) (E.getD y 0) z = some (r, T1)) (hr : r < 64)
    (H : ∀ pt' c0' a1' a2' a3' a4' a5' a6' a8' a9' a10', qz_ew c0' a1' (E ++ [r]) → qz_ok pt' a3' a4' a5' a6' a8' a9' a10' T1 → post (nI E.length) (c0', pt', pn, lc, cl, mv, ts, lv, fa, a1', a2', a3', a4', a5', a6', a7, a8', a9', a10', a11, a12, a13, a14, a15, a16, a17, a18)) :
    wX_gate_72 post (nI kind) (nI x) (nI y) (nI z) c0 pt pn lc cl mv ts lv fa a1 a2 a3 a4 a5 a6 a7 a8 a9 a10 a11 a12 a13 a14 a15 a16 a17 a18 := by
  have ea := qz_ew_add hw hl hr
  obtain ⟨h1, h2, h3⟩ := hw
  unfold wX_gate_72
  rw [h1] at ea ⊢
  have hin : vp_in (nI E.length) 40 := vp_in_nI hl (by decide)
  rw [nI_clamp (show x < 2 ^ 31 by omega), nI_clamp (show y < 2 ^ 31 by omega), nI_clamp (show E.length < 2 ^ 31 by omega), (h3 x hx).1, (h3 y hy).1]
  refine ⟨hin, nm_e ⟨vp_in_nI (by omega) (by decide), vp_in_nI (by omega) (by decide), qw_end hq hm (fun pt' a3' a4' a5' a6' a8' a9' a10' ok => ?_)⟩⟩
  dsimp only
  rw [qz_sh r hr]
  refine ⟨hin, nm_e (nm_e ?_)⟩
  rw [nI_1, nI_pred]
  rw [nI_1] at ea
  exact H _ _ _ _ _ _ _ _ _ _ _ ea ok
theorem qw_gate {post : Int32 → St2 → Prop} {E E1 : List Nat} {kind x y z : Nat} {T1 : qz_T} (hw : qz_ew c0 a1 E) (hq : qz_ok pt a3 a4 a5 a6 a8 a9 a10 T) (hk : kind < 8)
    (hm : qz_gate E T kind x y z = some (E1, T1))
    (H : ∀ pt' c0' a1' a2' a3' a4' a5' a6' a8' a9' a10', qz_ew c0' a1' E1 → qz_ok pt' a3' a4' a5' a6' a8' a9' a10' T1 → post (nI E.length) (c0', pt', pn, lc, cl, mv, ts, lv, fa, a1', a2', a3', a4', a5', a6', a7, a8', a9', a10', a11, a12, a13, a14, a15, a16, a17, a18)) :
    wpX_gate post (c0, pt, pn, lc, cl, mv, ts, lv, fa, a1, a2, a3, a4, a5, a6, a7, a8, a9, a10, a11, a12, a13, a14, a15, a16, a17, a18) (nI kind) (nI x) (nI y) (nI z) := by
  unfold qz_gate at hm
  by_cases c : x < E.length ∧ y < E.length ∧ z < E.length ∧ E.length < 40
  · rw [if_pos c] at hm
    obtain ⟨cx, cy, cz, cl'⟩ := c
    cases t : qz_end T kind (E.getD x 0) (E.getD y 0) (if kind < 7 then 0 else E.getD z 0) with
    | none => rw [t] at hm; cases hm
    | some w =>
      obtain ⟨r, T2⟩ := w
      rw [t] at hm
      dsimp only at hm
      by_cases hr : r < 64
      · rw [if_pos hr] at hm
        cases hm
        have k43 : wX_gate_43 post (nI kind) (nI x) (nI y) (nI z) c0 pt pn lc cl mv ts lv fa a1 a2 a3 a4 a5 a6 a7 a8 a9 a10 a11 a12 a13 a14 a15 a16 a17 a18 := by
          unfold wX_gate_43
          have hc : c0 < 40 := by rw [hw.1]; exact nI_lt (b := 40) cl' (by decide)
          refine br_t hc (pk_lt kind 7 (fun k7 => ?_) (fun k7 => ⟨vp_in_nI (by omega) (by decide), ?_⟩))
          · rw [if_pos k7] at t
            exact qw_g72 (z := 0) hw hq cx cy cl' t hr H
          · rw [if_neg (by omega)] at t
            rw [nI_clamp (show z < 2 ^ 31 by omega), (hw.2.2 z cz).1]
            exact qw_g72 hw hq cx cy cl' t hr H
        unfold wpX_gate
        dsimp only
        refine br_f (nI_pos (by omega)) (br_f (nI_nlt (b := kind) (a := 9) (by omega) (by decide)) ?_)
        refine qw_wire hw cx (br_f (by decide) (qw_wire hw cy (br_f (by decide) (pk_lt kind 7 (fun _ => k43) (fun _ => qw_wire hw cz (br_f (by decide) k43))))))
      · rw [if_neg hr] at hm
        cases hm
  · rw [if_neg c] at hm
    cases hm
end
end
section
/-! the constructor -/
section
variable {c0 pt pn lc cl mv ts lv fa : Int32} {a1 a2 a3 a4 a5 a6 a7 : Nat → Int32} {a8 : Nat → Int64} {a9 a10 a11 a12 a13 a14 a15 a16 a17 a18 : Nat → Int32}
theorem qw_loi {post : Int64 → Prop} {i : Nat} (hi : i < 8) (h7 : ∀ k, k < 64 → a7 k = qz_pat k) (hp : post (qz_k qz_T0 (i + 1))) : wpX_lookOfInput post (c0, pt, pn, lc, cl, mv, ts, lv, fa, a1, a2, a3, a4, a5, a6, a7, a8, a9, a10, a11, a12, a13, a14, a15, a16, a17, a18) (nI i) := by
  unfold wpX_lookOfInput
  dsimp only
  refine pk_loop (fun n k s => wX_lookOfInput_5 post (nI i) c0 pt pn lc cl mv ts lv fa a1 a2 a3 a4 a5 a6 a7 a8 a9 a10 a11 a12 a13 a14 a15 a16 a17 a18 n s (nI k)) (fun k s => s = qz_acc i k) 64 0 0 (by omega) rfl ?_ ?_
  · intro n s h
    exact pk_le 64 64 (fun _ => by rw [h, qz_accs i hi]; exact hp) (fun z => absurd z (by omega))
  · intro n k s hk h hw
    refine pk_le 64 k (fun z => absurd z (by omega)) (fun _ => ⟨pk_in k 64 hk, ?_⟩)
    rw [nI_clamp (show k < 2 ^ 31 by omega), h7 k hk]
    refine br_c (fun c => nm_e (nm_r (nI_1 k) (hw _ ?_))) (fun c => nm_e (nm_r (nI_1 k) (hw _ ?_)))
    · rw [qz_acc, if_pos c, h]
    · rw [qz_acc, if_neg c, h]
def qz_lk (a8 : Nat → Int64) (a9 a10 : Nat → Int32) (i : Nat) : Prop :=
  (∀ k, k < i → a8 k = qz_k qz_T0 k) ∧ (∀ m, m < 1024 → a9 m = qz_last (qz_lm qz_T0) 0 m i) ∧ (∀ k, k < i → a10 k = qz_last (qz_lm qz_T0) 0 (qz_lm qz_T0 k) k)
theorem qz_lk_add {i : Nat} {K : Int64} (hi : i < 9) (hK : K = qz_k qz_T0 i) (h : qz_lk a8 a9 a10 i) :
    qz_lk (vp_updL a8 i K) (upd a9 (qz_ml K) (nI i)) (upd a10 i (vp_nar .short (a9 (qz_ml K)))) (i + 1) := by
  obtain ⟨h1, h2, h3⟩ := h
  subst hK
  have nm : qz_lm qz_T0 i = qz_ml (qz_k qz_T0 i) := rfl
  refine ⟨fun k hk => ?_, fun m hm => ?_, fun k hk => ?_⟩
  · by_cases e : k = i
    · rw [e, pk_uLs]
    · rw [pk_uLn e]; exact h1 k (by omega)
  · rw [qz_last_s, nm]
    by_cases e : m = qz_ml (qz_k qz_T0 i)
    · rw [if_pos ⟨Nat.zero_le _, e.symm⟩, e, pk_us]
    · rw [if_neg (fun z => e z.2.symm), pk_un e]; exact h2 m hm
  · by_cases e : k = i
    · rw [e, pk_us, nm, h2 _ (qz_mllt _), qz_last_nar _ _ _ _ (by omega)]
    · rw [pk_un e]; exact h3 k (by omega)
theorem qw_la97 {post : St2 → Prop} {J : Int32 → Int32 → Int32 → Int32 → Int32 → Int32 → Int32 → Int32 → Int32 → Int32 → (Nat → Int32) → (Nat → Int32) → (Nat → Int32) → (Nat → Int32) → (Nat → Int32) → (Nat → Int32) → (Nat → Int32) → (Nat → Int64) → (Nat → Int32) → (Nat → Int32) → (Nat → Int32) → (Nat → Int32) → (Nat → Int32) → (Nat → Int32) → (Nat → Int32) → (Nat → Int32) → (Nat → Int32) → (Nat → Int32) → Prop} {i : Nat} (hi : i < 9)
    (hJ : J (nI (i + 1)) c0 pt pn lc cl mv ts lv fa a1 a2 a3 a4 a5 a6 a7 a8 (upd a9 (qz_ml (a8 i)) (nI i)) (upd a10 i (vp_nar .short (a9 (qz_ml (a8 i))))) a11 a12 a13 a14 a15 a16 a17 a18) : wX_lookAgain_97 post J (nI i) c0 pt pn lc cl mv ts lv fa a1 a2 a3 a4 a5 a6 a7 a8 a9 a10 a11 a12 a13 a14 a15 a16 a17 a18 := by
  unfold wX_lookAgain_97
  refine qw_enter (by omega) ?_
  exact nm_r (nI_1 i) hJ
theorem qw_la24 {post : St2 → Prop} (h7 : ∀ k, k < 64 → a7 k = qz_pat k) (h9 : ∀ m, m < 1024 → a9 m = -1)
    (H : ∀ a8' a9' a10', qz_lk a8' a9' a10' 9 → post (c0, 9, pn, lc, cl, mv, ts, lv, fa, a1, a2, a3, a4, a5, a6, a7, a8', a9', a10', a11, a12, a13, a14, a15, a16, a17, a18)) : ∃ n, wX_lookAgain_24 post n 0 c0 9 pn lc cl mv ts lv fa a1 a2 a3 a4 a5 a6 a7 a8 a9 a10 a11 a12 a13 a14 a15 a16 a17 a18 := by
  refine pk_loop (fun n i (s : (Nat → Int64) × (Nat → Int32) × (Nat → Int32)) => wX_lookAgain_24 post n (nI i) c0 9 pn lc cl mv ts lv fa a1 a2 a3 a4 a5 a6 a7 s.1 s.2.1 s.2.2 a11 a12 a13 a14 a15 a16 a17 a18) (fun i s => qz_lk s.1 s.2.1 s.2.2 i) 9 0 (a8, a9, a10) (by omega) ⟨fun k hk => absurd hk (by omega), h9, fun k hk => absurd hk (by omega)⟩ ?_ ?_
  · intro n s h
    exact pk_le 9 9 (fun _ => H _ _ _ h) (fun z => absurd z (by omega))
  · intro n i s hi h hw
    have hin : vp_in (nI i) 2560 := vp_in_nI (by omega) (by decide)
    refine pk_le 9 i (fun z => absurd z (by omega)) (fun _ => pk_eq i 0 (fun z => ⟨hin, ?_⟩) (fun z => pk_le 9 i (fun z => absurd z (by omega)) (fun _ => ?_)))
    · rw [nI_clamp (show i < 2 ^ 31 by omega)]
      have e : (0 : Int64) = qz_k qz_T0 i := by rw [z]; decide +kernel
      refine nm_e (qw_la97 hi ?_)
      rw [pk_uLs]
      exact hw (_, _, _) (qz_lk_add hi e h)
    · obtain ⟨j, rfl⟩ : ∃ j, i = j + 1 := ⟨i - 1, by omega⟩
      rw [nI_pred]
      refine qw_loi (by omega) h7 ⟨hin, ?_⟩
      rw [nI_clamp (show j + 1 < 2 ^ 31 by omega)]
      refine nm_e (qw_la97 hi ?_)
      rw [pk_uLs]
      exact hw (_, _, _) (qz_lk_add hi rfl h)
theorem qw_la {post : St2 → Prop} (h7 : ∀ k, k < 64 → a7 k = qz_pat k)
    (H : ∀ a8' a9' a10', qz_lk a8' a9' a10' 9 → post (c0, 9, pn, lc, cl, mv, ts, lv, fa, a1, a2, a3, a4, a5, a6, a7, a8', a9', a10', a11, a12, a13, a14, a15, a16, a17, a18)) : wpX_lookAgain post (c0, 9, pn, lc, cl, mv, ts, lv, fa, a1, a2, a3, a4, a5, a6, a7, a8, a9, a10, a11, a12, a13, a14, a15, a16, a17, a18) := by
  unfold wpX_lookAgain
  dsimp only
  refine pk_loop (fun n i s => wX_lookAgain_2 post c0 9 pn lc cl mv ts lv fa n (nI i) a1 a2 a3 a4 a5 a6 a7 a8 s a10 a11 a12 a13 a14 a15 a16 a17 a18) (fun i s => ∀ m, m < i → s m = -1) 1024 0 a9 (by omega) (fun k hk => absurd hk (by omega)) ?_ ?_
  · intro n s h
    exact pk_le 1024 1024 (fun _ => qw_la24 h7 h H) (fun z => absurd z (by omega))
  · intro n i s hi h hw
    refine pk_le 1024 i (fun z => absurd z (by omega)) (fun _ => ⟨pk_in i 1024 hi, ?_⟩)
    rw [nI_clamp (show i < 2 ^ 31 by omega)]
    refine nm_e (nm_r (nI_1 i) (hw _ (fun m hm => ?_)))
    by_cases e : m = i
    · rw [e, pk_us]
    · rw [pk_un e]; exact h m (by omega)
theorem qw_i242 {post : St2 → Prop} {mc ms kc ks : Nat} (H : ∀ a1' a2', qz_ew 8 a1' qz_E0 → post (8, pt, pn, lc, cl, mv, ts, lv, fa, a1', a2', a3, a4, a5, a6, a7, a8, a9, a10, a11, a12, a13, a14, a15, a16, a17, a18)) :
    ∃ n, wX_init_242 post mc ms kc ks 8 pt pn lc cl mv ts lv fa n 0 a1 a2 a3 a4 a5 a6 a7 a8 a9 a10 a11 a12 a13 a14 a15 a16 a17 a18 := by
  refine pk_loop (fun n i (s : (Nat → Int32) × (Nat → Int32)) => wX_init_242 post mc ms kc ks 8 pt pn lc cl mv ts lv fa n (nI i) s.1 s.2 a3 a4 a5 a6 a7 a8 a9 a10 a11 a12 a13 a14 a15 a16 a17 a18) (fun i s => ∀ k, k < i → s.1 k = nI (2 * (k + 1))) 8 0 (a1, a2) (by omega) (fun k hk => absurd hk (by omega)) ?_ ?_
  · intro n s h
    refine pk_le 8 8 (fun _ => H _ _ ⟨rfl, by decide, fun k hk => ?_⟩) (fun z => absurd z (by omega))
    have hk' : k < 8 := hk
    have t : ∀ k, k < 8 → qz_E0.getD k 0 = 2 * (k + 1) := by decide
    rw [h k hk', t k hk']
    exact ⟨rfl, by omega⟩
  · intro n i s hi h hw
    refine pk_le 8 i (fun z => absurd z (by omega)) (fun _ => ⟨pk_in i 40 (by omega), ?_⟩)
    rw [nI_clamp (show i < 2 ^ 31 by omega), nI_1, qz_dbl, qz_sh _ (show 2 * (i + 1) < 64 by omega)]
    refine nm_e ⟨pk_in i 40 (by omega), nm_e (nm_e (hw (upd s.1 i (nI (2 * (i + 1))), upd s.2 i 9) (fun k hk => ?_)))⟩
    show upd s.1 i (nI (2 * (i + 1))) k = _
    by_cases e : k = i
    · rw [e, pk_us]
    · rw [pk_un e]; exact h k (by omega)
theorem qz_last9 {mk : Nat → Nat} {m : Nat} : ∀ n, n ≤ 9 → qz_last mk 9 m n = -1 := by
  intro n
  induction n with
  | zero => intro _; rfl
  | succ n ih =>
    intro h
    rw [qz_last_s, if_neg (fun z => absurd z.1 (by omega))]
    exact ih (by omega)
theorem qz_ok0 (h5 : ∀ m, m < 1024 → a5 m = -1) (h : qz_lk a8 a9 a10 9) : qz_ok 9 a3 a4 a5 a6 a8 a9 a10 qz_T0 := by
  obtain ⟨h1, h2, h3⟩ := h
  have t : ∀ k, k < 9 → qz_l qz_T0 k < 64 ∧ qz_r qz_T0 k < 64 := by decide +kernel
  have L : qz_T0.length = 9 := rfl
  unfold qz_ok
  rw [L]
  exact ⟨⟨rfl, by omega, by omega⟩, fun k hk => ⟨(t k hk).1, (t k hk).2, h1 k hk⟩, fun k hk9 hk => absurd hk (by omega), fun m hm => by rw [h5 m hm, qz_last9 9 (by omega)], fun k hk9 hk => absurd hk (by omega), h2, h3⟩
theorem qw_i199 {post : St2 → Prop} {mc ms kc ks : Nat} (h5 : ∀ m, m < 1024 → a5 m = -1)
    (H : ∀ a1' a2' a7' a8' a9' a10', qz_ew 8 a1' qz_E0 → qz_ok 9 a3 a4 a5 a6 a8' a9' a10' qz_T0 → post (8, 9, pn, lc, cl, mv, ts, lv, fa, a1', a2', a3, a4, a5, a6, a7', a8', a9', a10', a11, a12, a13, a14, a15, a16, a17, a18)) :
    ∃ n, wX_init_199 post mc ms kc ks 8 pt pn lc cl mv ts lv fa n 0 0 a1 a2 a3 a4 a5 a6 a7 a8 a9 a10 a11 a12 a13 a14 a15 a16 a17 a18 := by
  refine pk_loop (fun n i (s : Int32 × (Nat → Int32)) => wX_init_199 post mc ms kc ks 8 pt pn lc cl mv ts lv fa n s.1 (nI i) a1 a2 a3 a4 a5 a6 s.2 a8 a9 a10 a11 a12 a13 a14 a15 a16 a17 a18) (fun i s => s.1 = qz_lcg i ∧ ∀ k, k < i → s.2 k = qz_pat k) 64 0 (0, a7) (by omega) ⟨rfl, fun k hk => absurd hk (by omega)⟩ ?_ ?_
  · intro n s h
    refine pk_le 64 64 (fun _ => qw_la h.2 (fun a8' a9' a10' hl => ?_)) (fun z => absurd z (by omega))
    exact qw_i242 (fun a1' a2' he => H _ _ _ _ _ _ he (qz_ok0 h5 hl))
  · intro n i s hi h hw
    refine pk_le 64 i (fun z => absurd z (by omega)) (fun _ => ?_)
    refine nm_r (e' := qz_lcg (i + 1)) (by rw [h.1]; rfl) ⟨pk_in i 64 hi, ?_⟩
    rw [nI_clamp (show i < 2 ^ 31 by omega)]
    refine nm_e (nm_r (nI_1 i) (hw (qz_lcg (i + 1), upd s.2 i (qz_lcg (i + 1)).toInt16.toInt32) ⟨rfl, fun k hk => ?_⟩))
    show upd s.2 i (qz_lcg (i + 1)).toInt16.toInt32 k = _
    by_cases e : k = i
    · rw [e, pk_us]; rfl
    · rw [pk_un e]; exact h.2 k (by omega)
theorem qw_i168 {post : St2 → Prop} {mc ms kc ks : Nat}
    (H : ∀ a1' a2' a5' a7' a8' a9' a10', qz_ew 8 a1' qz_E0 → qz_ok 9 a3 a4 a5' a6 a8' a9' a10' qz_T0 → post (8, 9, pn, lc, cl, mv, ts, lv, fa, a1', a2', a3, a4, a5', a6, a7', a8', a9', a10', a11, a12, a13, a14, a15, a16, a17, a18)) :
    ∃ n, wX_init_168 post mc ms kc ks 8 pt pn lc cl mv ts lv fa n 0 a1 a2 a3 a4 a5 a6 a7 a8 a9 a10 a11 a12 a13 a14 a15 a16 a17 a18 := by
  refine pk_loop (fun n i (s : (Nat → Int32) × (Nat → Int32)) => wX_init_168 post mc ms kc ks 8 pt pn lc cl mv ts lv fa n (nI i) a1 a2 a3 a4 s.1 a6 a7 a8 s.2 a10 a11 a12 a13 a14 a15 a16 a17 a18) (fun i s => ∀ k, k < i → s.1 k = -1) 1024 0 (a5, a9) (by omega) (fun k hk => absurd hk (by omega)) ?_ ?_
  · intro n s h
    exact pk_le 1024 1024 (fun _ => qw_i199 h (fun _ _ _ _ _ _ he hq => H _ _ _ _ _ _ _ he hq)) (fun z => absurd z (by omega))
  · intro n i s hi h hw
    refine pk_le 1024 i (fun z => absurd z (by omega)) (fun _ => ⟨pk_in i 1024 hi, ?_⟩)
    rw [nI_clamp (show i < 2 ^ 31 by omega)]
    refine nm_e ⟨pk_in i 1024 hi, nm_e (nm_r (nI_1 i) (hw (upd s.1 i (-1), upd s.2 i (-1)) (fun k hk => ?_)))⟩
    show upd s.1 i (-1) k = _
    by_cases e : k = i
    · rw [e, pk_us]
    · rw [pk_un e]; exact h k (by omega)
theorem qw_init {post : St2 → Prop} {mc ms : Nat} (hc : 18 ≤ mc) (hs : 27819 ≤ ms)
    (H : ∀ (a1 a2 a3 a4 a5 a6 a7 : Nat → Int32) (a8 : Nat → Int64) (a9 a10 a11 a12 a13 a14 a15 a16 a17 a18 : Nat → Int32), qz_ew 8 a1 qz_E0 → qz_ok 9 a3 a4 a5 a6 a8 a9 a10 qz_T0 → post (8, 9, 0, 0, 0, 0, 0, 0, 0, a1, a2, a3, a4, a5, a6, a7, a8, a9, a10, a11, a12, a13, a14, a15, a16, a17, a18)) :
    wpX_init post mc ms (0, 0, 0, 0, 0, 0, 0, 0, 0) := by
  unfold wpX_init
  dsimp only
  refine ⟨by omega, by omega, by omega, by omega, by omega, by omega, by omega, by omega, by omega, by omega, by omega, by omega, by omega, by omega, by omega, by omega, by omega, by omega, by omega, by omega, by omega, by omega, by omega, by omega, by omega, by omega, by omega, by omega, by omega, by omega, by omega, by omega, by omega, by omega, by omega, by omega, ?_⟩
  exact qw_i168 (fun _ _ _ _ _ _ _ he hq => H _ _ _ _ _ _ _ _ _ _ _ _ _ _ _ _ _ _ he hq)
end
end
section
/-! taking parts back, fixing an input -/
section
variable {c0 pt pn lc cl mv ts lv fa : Int32} {a1 a2 a3 a4 a5 a6 a7 : Nat → Int32} {a8 : Nat → Int64} {a9 a10 a11 a12 a13 a14 a15 a16 a17 a18 : Nat → Int32}
theorem qw_b0 {post : St2 → Prop} {size : Nat} (h9 : 9 ≤ size) : ∀ (d : Nat) (T : qz_T) (pt : Int32) (a5 a9 : Nat → Int32), T.length = size + d → qz_ok pt a3 a4 a5 a6 a8 a9 a10 T → ∀ f, d < f →
    (∀ pt' a5' a9', qz_ok pt' a3 a4 a5' a6 a8 a9' a10 (T.take size) → post (c0, pt', pn, lc, cl, mv, ts, lv, fa, a1, a2, a3, a4, a5', a6, a7, a8, a9', a10, a11, a12, a13, a14, a15, a16, a17, a18)) → wX_backTo_3_0 post (nI size) c0 pn lc cl mv ts lv fa f pt a1 a2 a3 a4 a5 a6 a7 a8 a9 a10 a11 a12 a13 a14 a15 a16 a17 a18 := by
  intro d
  induction d with
  | zero =>
    intro T pt a5 a9 hT hq f hf H
    obtain ⟨f, rfl⟩ : ∃ g, f = g + 1 := ⟨f - 1, by omega⟩
    have q3 := hq.1.2.2
    have e : T.take size = T := List.take_of_length_le (by omega)
    rw [e] at H
    have q1 : pt = nI size := by rw [hq.1.1, hT]; rfl
    exact br_t (by rw [q1]; exact nI_le (Nat.le_refl _) (by omega)) (H _ _ _ hq)
  | succ d ih =>
    intro T pt a5 a9 hT hq f hf H
    obtain ⟨f, rfl⟩ : ∃ g, f = g + 1 := ⟨f - 1, by omega⟩
    have q3 := hq.1.2.2
    have q1 : pt = nI (size + d + 1) := by rw [hq.1.1, hT]; rfl
    have b4 := hq.2.1 (size + d) (by omega)
    have b5 := hq.2.2.1 (size + d) (by omega) (by omega)
    have hin : vp_in (nI (size + d)) 2560 := vp_in_nI (by omega) (by decide)
    have dr := qz_drop hq (n := size + d) (by omega) (by omega)
    have hl : (T.take (size + d)).length = size + d := by rw [List.length_take]; omega
    have ht : (T.take (size + d)).take size = T.take size := by rw [List.take_take, show min size (size + d) = size by omega]
    refine br_f (by rw [q1]; exact nI_ge (by omega) (by omega)) (nm_r (e' := nI (size + d)) (by rw [q1, nI_pred]) ?_)
    rw [nI_clamp (show size + d < 2 ^ 31 by omega), b5.1, b5.2, b4.2.2]
    refine ⟨hin, hin, ?_⟩
    unfold wpX_markOfPair
    refine ⟨hin, qz_mpin _ _, nm_e ⟨hin, qw_ml ⟨hin, qz_miin _, nm_e ?_⟩⟩⟩
    refine ih (T.take (size + d)) _ _ _ hl dr f (by omega) ?_
    rw [ht]
    exact H
theorem qw_back {post : St2 → Prop} {T : qz_T} {size : Nat} (h9 : 9 ≤ size) (hs : size ≤ T.length) (hq : qz_ok pt a3 a4 a5 a6 a8 a9 a10 T)
    (H : ∀ pt' a5' a9', qz_ok pt' a3 a4 a5' a6 a8 a9' a10 (T.take size) → post (c0, pt', pn, lc, cl, mv, ts, lv, fa, a1, a2, a3, a4, a5', a6, a7, a8, a9', a10, a11, a12, a13, a14, a15, a16, a17, a18)) : wpX_backTo_3 post (c0, pt, pn, lc, cl, mv, ts, lv, fa, a1, a2, a3, a4, a5, a6, a7, a8, a9, a10, a11, a12, a13, a14, a15, a16, a17, a18) (nI size) := by
  unfold wpX_backTo_3
  dsimp only
  exact ⟨T.length + 1, qw_b0 h9 (T.length - size) T pt a5 a9 (by omega) hq _ (by omega) H⟩
theorem qz_u1 {f : Nat → Int32} {j k : Nat} (h : f k = 1) : upd f j 1 k = 1 := by
  by_cases e : k = j
  · rw [e, pk_us]
  · rw [pk_un e, h]
theorem qw_mcs {post : St2 → Prop} {T : qz_T} {k n : Nat} (hq : qz_ok pt a3 a4 a5 a6 a8 a9 a10 T) (hk : 9 ≤ k + 1) (hl : k + 1 < T.length) (h1 : a18 (k + 1) = 1)
    (H : wX_markConcerned_31 post c0 pt pn lc cl mv ts lv fa n (nI k) a1 a2 a3 a4 a5 a6 a7 a8 a9 a10 a11 a12 a13 a14 a15 a16 a17 (upd (upd a18 (qz_l T (k + 1) / 2) 1) (qz_r T (k + 1) / 2) 1)) :
    wX_markConcerned_31 post c0 pt pn lc cl mv ts lv fa (n + 1) (nI (k + 1)) a1 a2 a3 a4 a5 a6 a7 a8 a9 a10 a11 a12 a13 a14 a15 a16 a17 a18 := by
  have q3 := hq.1.2.2
  have b4 := hq.2.1 (k + 1) (by omega)
  have b5 := hq.2.2.1 (k + 1) (by omega) (by omega)
  have hin : vp_in (nI (k + 1)) 2560 := vp_in_nI (by omega) (by decide)
  unfold wX_markConcerned_31
  rw [nI_clamp (show k + 1 < 2 ^ 31 by omega), h1, b5.1, b5.2, qz_shr b4.1, qz_shr b4.2.1, nI_clamp (show qz_l T (k + 1) / 2 < 2 ^ 31 by omega), nI_clamp (show qz_r T (k + 1) / 2 < 2 ^ 31 by omega)]
  exact br_f (nI_nlt (b := 9) (by omega) (by omega)) ⟨hin, br_f (by decide) ⟨hin, vp_in_nI (by omega) (by decide), nm_e ⟨hin, vp_in_nI (by omega) (by decide), nm_e (nm_r (pk_m1 k) H)⟩⟩⟩
theorem qw_mc31 {post : St2 → Prop} {T : qz_T} (hq : qz_ok pt a3 a4 a5 a6 a8 a9 a10 T) (hl : 11 < T.length) (h1 : a18 11 = 1) (e9 : qz_l T 11 / 2 = 9) (e10 : qz_r T 11 / 2 = 10)
    (H : ∀ a18', a18' 9 = 1 → a18' 10 = 1 → a18' 11 = 1 → post (c0, pt, pn, lc, cl, mv, ts, lv, fa, a1, a2, a3, a4, a5, a6, a7, a8, a9, a10, a11, a12, a13, a14, a15, a16, a17, a18')) : ∃ n, wX_markConcerned_31 post c0 pt pn lc cl mv ts lv fa n (nI 11) a1 a2 a3 a4 a5 a6 a7 a8 a9 a10 a11 a12 a13 a14 a15 a16 a17 a18 := by
  refine ⟨4, ?_⟩
  refine qw_mcs (k := 10) hq (by omega) hl h1 ?_
  rw [e9, e10]
  have g9 : upd (upd a18 9 1) 10 1 9 = 1 := qz_u1 pk_us
  have g10 : upd (upd a18 9 1) 10 1 10 = 1 := pk_us
  have g11 : upd (upd a18 9 1) 10 1 11 = 1 := qz_u1 (qz_u1 h1)
  refine qw_mcs (k := 9) hq (by omega) (by omega) g10 ?_
  refine qw_mcs (k := 8) hq (by omega) (by omega) (qz_u1 (qz_u1 g9)) ?_
  exact br_t (by decide) (H _ (qz_u1 (qz_u1 (qz_u1 (qz_u1 g9)))) (qz_u1 (qz_u1 (qz_u1 (qz_u1 g10)))) (qz_u1 (qz_u1 (qz_u1 (qz_u1 g11)))))
theorem qw_mc {post : St2 → Prop} {T : qz_T} (hq : qz_ok pt a3 a4 a5 a6 a8 a9 a10 T) (hl : 11 < T.length) (e9 : qz_l T 11 / 2 = 9) (e10 : qz_r T 11 / 2 = 10)
    (H : ∀ a18', a18' 9 = 1 → a18' 10 = 1 → a18' 11 = 1 → post (c0, pt, pn, lc, cl, mv, ts, lv, fa, a1, a2, a3, a4, a5, a6, a7, a8, a9, a10, a11, a12, a13, a14, a15, a16, a17, a18')) : wpX_markConcerned post (c0, pt, pn, lc, cl, mv, ts, lv, fa, a1, a2, a3, a4, a5, a6, a7, a8, a9, a10, a11, a12, a13, a14, a15, a16, a17, a18) (nI 11) := by
  unfold wpX_markConcerned
  dsimp only
  refine pk_loop (fun n i s => wX_markConcerned_2 post (nI 11) c0 pt pn lc cl mv ts lv fa n (nI i) a1 a2 a3 a4 a5 a6 a7 a8 a9 a10 a11 a12 a13 a14 a15 a16 a17 s) (fun i s => 11 < i → s 11 = 1) 12 0 a18 (by omega) (fun k => absurd k (by omega)) ?_ ?_
  · intro n s h
    exact pk_lt 11 12 (fun _ => qw_mc31 hq hl (h (by omega)) e9 e10 H) (fun z => absurd z (by omega))
  · intro n i s hi h hw
    refine pk_lt 11 i (fun z => absurd z (by omega)) (fun _ => pk_eq i 11 (fun z => ⟨pk_in i 2560 (by omega), ?_⟩) (fun z => ⟨pk_in i 2560 (by omega), ?_⟩))
    · rw [nI_clamp (show i < 2 ^ 31 by omega)]
      refine nm_e (nm_r (nI_1 i) (hw _ (fun _ => ?_)))
      rw [← z, pk_us]
    · rw [nI_clamp (show i < 2 ^ 31 by omega)]
      exact nm_e (nm_r (nI_1 i) (hw _ (fun y => absurd y (by omega))))
def qz_fl (a17 : Nat → Int32) (F : List Nat) : Prop := ∀ k, k < F.length → a17 k = nI (F.getD k 0) ∧ F.getD k 0 < 64
theorem qz_fl_add {F : List Nat} {q : Nat} (h : qz_fl a17 F) (hq : q < 64) : qz_fl (upd a17 F.length (nI q)) (F ++ [q]) := by
  intro k hk
  rw [List.length_append, List.length_singleton] at hk
  by_cases e : k = F.length
  · have : (F ++ [q]).getD F.length 0 = q := by simp [List.getD]
    rw [e, pk_us, this]
    exact ⟨rfl, hq⟩
  · have hk' : k < F.length := by omega
    have : (F ++ [q]).getD k 0 = F.getD k 0 := by simp [List.getD, List.getElem?_append_left hk']
    rw [pk_un e, this]
    exact h k hk'
theorem qz_x64 {a b : Nat} (ha : a < 64) (hb : b < 64) : a ^^^ b < 64 := Nat.xor_lt_two_pow (n := 6) ha hb
theorem qw_f62 {post : Int32 → St2 → Prop} {F1 : List Nat} {T1 : qz_T} (g9 : a18 9 = 1) (g10 : a18 10 = 1) (g11 : a18 11 = 1)
    (H : ∀ pt' a3' a4' a5' a6' a8' a9' a10' a17', qz_ok pt' a3' a4' a5' a6' a8' a9' a10' T1 → post (nI (F1.getD 11 0 ^^^ 1)) (c0, pt', pn, lc, cl, mv, ts, lv, fa, a1, a2, a3', a4', a5', a6', a7, a8', a9', a10', a11, a12, a13, a14, a15, a16, a17', a18)) :
    ∀ (n : Nat) (T : qz_T) (F : List Nat) (pt : Int32) (a3 a4 a5 a6 : Nat → Int32) (a8 : Nat → Int64) (a9 a10 a17 : Nat → Int32), F.length + n = 12 → 9 ≤ F.length → qz_ok pt a3 a4 a5 a6 a8 a9 a10 T → qz_fl a17 F →
      qz_fixL n T F = some (F1, T1) → ∀ f, n < f → wX_fix_62 post (nI 23) (nI 11) f (nI F.length) c0 pt pn lc cl mv ts lv fa a1 a2 a3 a4 a5 a6 a7 a8 a9 a10 a11 a12 a13 a14 a15 a16 a17 a18 := by
  intro n
  induction n with
  | zero =>
    intro T F pt a3 a4 a5 a6 a8 a9 a10 a17 hn h9 hq hF hm f hf
    obtain ⟨f, rfl⟩ : ∃ g, f = g + 1 := ⟨f - 1, by omega⟩
    cases hm
    refine br_t (nI_lt (by omega) (by omega)) ⟨vp_in_nI (by decide) (by decide), ?_⟩
    rw [nI_clamp (show 11 < 2 ^ 31 by decide), (hF 11 (by omega)).1, qz_an1 (show 23 < 64 by decide), nx_xor]
    exact H _ _ _ _ _ _ _ _ _ hq
  | succ n ih =>
    intro T F pt a3 a4 a5 a6 a8 a9 a10 a17 hn h9 hq hF hm f hf
    obtain ⟨f, rfl⟩ : ∃ g, f = g + 1 := ⟨f - 1, by omega⟩
    have q3 := hq.1.2.2
    rw [qz_fixL] at hm
    by_cases c : F.length < T.length ∧ qz_l T F.length / 2 < F.length ∧ qz_r T F.length / 2 < F.length
    · rw [if_pos c] at hm
      obtain ⟨c1, c2, c3⟩ := c
      have b4 := hq.2.1 F.length c1
      have b5 := hq.2.2.1 F.length h9 c1
      have fa' := hF _ c2
      have fb' := hF _ c3
      have xa : F.getD (qz_l T F.length / 2) 0 ^^^ (qz_l T F.length % 2) < 64 := qz_x64 fa'.2 (by omega)
      have xb : F.getD (qz_r T F.length / 2) 0 ^^^ (qz_r T F.length % 2) < 64 := qz_x64 fb'.2 (by omega)
      have ga : a18 F.length = 1 := by
        have : F.length = 9 ∨ F.length = 10 ∨ F.length = 11 := by omega
        rcases this with z | z | z
        · rw [z]; exact g9
        · rw [z]; exact g10
        · rw [z]; exact g11
      have hin : vp_in (nI F.length) 2560 := vp_in_nI (by omega) (by decide)
      have els : ¬ (F.getD (qz_l T F.length / 2) 0 ^^^ (qz_l T F.length % 2) = qz_l T F.length ∧ F.getD (qz_r T F.length / 2) 0 ^^^ (qz_r T F.length % 2) = qz_r T F.length) →
          wX_fix_159 post (wX_fix_62 post (nI 23) (nI 11) f) (nI 23) (nI 11) (nI F.length) (nI (F.getD (qz_l T F.length / 2) 0 ^^^ (qz_l T F.length % 2))) (nI (F.getD (qz_r T F.length / 2) 0 ^^^ (qz_r T F.length % 2))) c0 pt pn lc cl mv ts lv fa a1 a2 a3 a4 a5 a6 a7 a8 a9 a10 a11 a12 a13 a14 a15 a16 a17 a18 := by
        intro ne
        rw [if_neg ne] at hm
        unfold wX_fix_159 wX_fix_160
        refine br_t rfl ?_
        cases t : qz_and T (F.getD (qz_l T F.length / 2) 0 ^^^ (qz_l T F.length % 2)) (F.getD (qz_r T F.length / 2) 0 ^^^ (qz_r T F.length % 2)) with
        | none => rw [t] at hm; cases hm
        | some w =>
          obtain ⟨q, T2⟩ := w
          rw [t] at hm
          dsimp only at hm
          by_cases hq' : q < 64
          · rw [if_pos hq'] at hm
            refine qw_and_2 hq t (fun pt' a3' a4' a5' a6' a8' a9' a10' ok => ?_)
            dsimp only
            rw [nI_clamp (show F.length < 2 ^ 31 by omega), qz_sh q hq']
            refine ⟨hin, nm_e (nm_r (nI_1 _) ?_)⟩
            have := ih T2 (F ++ [q]) pt' a3' a4' a5' a6' a8' a9' a10' (upd a17 F.length (nI q)) (by rw [List.length_append, List.length_singleton]; omega) (by rw [List.length_append, List.length_singleton]; omega) ok (qz_fl_add hF hq') hm f (by omega)
            rw [List.length_append, List.length_singleton] at this
            exact this
          · rw [if_neg hq'] at hm
            cases hm
      have thn : (F.getD (qz_l T F.length / 2) 0 ^^^ (qz_l T F.length % 2) = qz_l T F.length ∧ F.getD (qz_r T F.length / 2) 0 ^^^ (qz_r T F.length % 2) = qz_r T F.length) →
          wX_fix_160 post (wX_fix_62 post (nI 23) (nI 11) f) (nI 23) (nI 11) (nI F.length) (nI (F.getD (qz_l T F.length / 2) 0 ^^^ (qz_l T F.length % 2))) (nI (F.getD (qz_r T F.length / 2) 0 ^^^ (qz_r T F.length % 2))) 1 c0 pt pn lc cl mv ts lv fa a1 a2 a3 a4 a5 a6 a7 a8 a9 a10 a11 a12 a13 a14 a15 a16 a17 a18 := by
        intro ee
        rw [if_pos ee] at hm
        unfold wX_fix_160
        refine br_f (by decide) ⟨hin, ?_⟩
        rw [nI_clamp (show F.length < 2 ^ 31 by omega), qz_dbl, qz_sh _ (show 2 * F.length < 64 by omega)]
        refine nm_e (nm_r (nI_1 _) ?_)
        have := ih T (F ++ [2 * F.length]) pt a3 a4 a5 a6 a8 a9 a10 (upd a17 F.length (nI (2 * F.length))) (by rw [List.length_append, List.length_singleton]; omega) (by rw [List.length_append, List.length_singleton]; omega) hq (qz_fl_add hF (by omega)) hm f (by omega)
        rw [List.length_append, List.length_singleton] at this
        exact this
      unfold wX_fix_62
      rw [nI_clamp (show F.length < 2 ^ 31 by omega), ga, b5.1, b5.2, qz_shr b4.1, qz_shr b4.2.1, nI_clamp (show qz_l T F.length / 2 < 2 ^ 31 by omega), nI_clamp (show qz_r T F.length / 2 < 2 ^ 31 by omega), qz_an1 b4.1, qz_an1 b4.2.1, fa'.1, fb'.1, nx_xor, nx_xor]
      refine br_f (nI_nlt (by omega) (by omega)) ⟨hin, br_f (by decide) ⟨hin, vp_in_nI (by omega) (by decide), hin, nm_e ⟨hin, vp_in_nI (by omega) (by decide), hin, nm_e ⟨hin, ?_⟩⟩⟩⟩
      refine pk_eq _ _ (fun z => ⟨hin, pk_eq _ _ (fun w => thn ⟨z, w⟩) (fun w => els (fun t => w t.2)) rfl rfl (by omega) (by omega)⟩) (fun z => els (fun t => z t.1)) rfl rfl (by omega) (by omega)
    · rw [if_neg c] at hm
      cases hm
theorem qz_f0g {i v : Nat} : ∀ k, k < 9 → (qz_f0 i v).getD k 0 = if k = 0 then 0 else if k = i + 1 then v else 2 * k := by
  intro k hk
  unfold qz_f0
  simp [List.getD, hk]
theorem qz_f0l {i v : Nat} : (qz_f0 i v).length = 9 := by simp [qz_f0]
theorem qw_fix {post : Int32 → St2 → Prop} {T T1 : qz_T} {i v r : Nat} (hq : qz_ok pt a3 a4 a5 a6 a8 a9 a10 T) (hi : i < 8) (hv : v < 2) (hm : qz_fix T i v = some (r, T1))
    (H : ∀ pt' a3' a4' a5' a6' a8' a9' a10' a17' a18', qz_ok pt' a3' a4' a5' a6' a8' a9' a10' T1 → post (nI r) (c0, pt', pn, lc, cl, mv, ts, lv, fa, a1, a2, a3', a4', a5', a6', a7, a8', a9', a10', a11, a12, a13, a14, a15, a16, a17', a18')) :
    wpX_fix post (c0, pt, pn, lc, cl, mv, ts, lv, fa, a1, a2, a3, a4, a5, a6, a7, a8, a9, a10, a11, a12, a13, a14, a15, a16, a17, a18) (nI 23) (nI i) (nI v) := by
  unfold qz_fix at hm
  by_cases c : 11 < T.length ∧ qz_l T 11 / 2 = 9 ∧ qz_r T 11 / 2 = 10
  · rw [if_pos c] at hm
    cases t : qz_fixL 3 T (qz_f0 i v) with
    | none => rw [t] at hm; cases hm
    | some w =>
      obtain ⟨F1, T2⟩ := w
      rw [t] at hm
      cases hm
      unfold wpX_fix
      dsimp only
      refine nm_r (e' := nI 11) (qz_shr (n := 23) (by decide)) (nm_e ?_)
      refine pk_loop (fun n j s => wX_fix_15 post (nI 23) (nI i) (nI v) (nI 11) c0 pt pn lc cl mv ts lv fa n (nI j) a1 a2 a3 a4 a5 a6 a7 a8 a9 a10 a11 a12 a13 a14 a15 a16 s a18) (fun j s => ∀ k, k < j → s k = nI ((qz_f0 i v).getD k 0)) 9 1 (upd a17 0 0) (by omega) ?_ ?_ ?_
      · intro k hk
        rw [qz_f0g k (by omega), if_pos (by omega), show k = 0 by omega, pk_us]
        rfl
      · intro n s h
        refine pk_le 9 9 (fun _ => qw_mc hq c.1 c.2.1 c.2.2 (fun a18' g9 g10 g11 => ?_)) (fun z => absurd z (by omega))
        dsimp only
        have fl : qz_fl s (qz_f0 i v) := by
          intro k hk
          rw [qz_f0l] at hk
          refine ⟨h k hk, ?_⟩
          rw [qz_f0g k hk]
          repeat' split
          all_goals omega
        have := qw_f62 (post := post) g9 g10 g11 (fun pt' a3' a4' a5' a6' a8' a9' a10' a17' ok => H pt' a3' a4' a5' a6' a8' a9' a10' a17' a18' ok) 3 T (qz_f0 i v) pt a3 a4 a5 a6 a8 a9 a10 s (by rw [qz_f0l]) (by rw [qz_f0l]; omega) hq fl t 4 (by omega)
        rw [qz_f0l] at this
        exact ⟨4, this⟩
      · intro n j s hj h hw
        refine pk_le 9 j (fun z => absurd z (by omega)) (fun _ => pk_eq j (i + 1) (fun z => ⟨pk_in j 2560 (by omega), ?_⟩) (fun z => ⟨pk_in j 2560 (by omega), ?_⟩) rfl (nI_1 i))
        · rw [nI_clamp (show j < 2 ^ 31 by omega), qz_sh v (by omega)]
          refine nm_e (nm_r (nI_1 j) (hw _ (fun k hk => ?_)))
          by_cases e : k = j
          · rw [e, pk_us, qz_f0g j hj, if_neg (by omega), if_pos z]
          · rw [pk_un e]; exact h k (by omega)
        · rw [nI_clamp (show j < 2 ^ 31 by omega), qz_dbl, qz_sh _ (show 2 * j < 64 by omega)]
          refine nm_e (nm_r (nI_1 j) (hw _ (fun k hk => ?_)))
          by_cases e : k = j
          · by_cases j0 : j = 0
            · rw [e, pk_us, qz_f0g j hj, if_pos j0, j0]
            · rw [e, pk_us, qz_f0g j hj, if_neg j0, if_neg z]
          · rw [pk_un e]; exact h k (by omega)
  · rw [if_neg c] at hm
    cases hm
end
end
section
/-! depends, groups and the small readers -/
section
variable {c0 pt pn lc cl mv ts lv fa : Int32} {a1 a2 a3 a4 a5 a6 a7 : Nat → Int32} {a8 : Nat → Int64} {a9 a10 a11 a12 a13 a14 a15 a16 a17 a18 : Nat → Int32}
variable {E : List Nat}
theorem qw_d14 {post : Int32 → St2 → Prop} {T : qz_T} {m : Int32} (hw : qz_ew c0 a1 E) (h12 : 12 < E.length) (e12 : E.getD 12 0 = 23)
    (H : ∀ pt' a3' a4' a5' a6' a8' a9' a10' a17' a18', qz_ok pt' a3' a4' a5' a6' a8' a9' a10' T → post m (c0, pt', pn, lc, cl, mv, ts, lv, fa, a1, a2, a3', a4', a5', a6', a7, a8', a9', a10', a11, a12, a13, a14, a15, a16, a17', a18')) :
    ∀ (n i : Nat) (s : Int32) (pt : Int32) (a3 a4 a5 a6 : Nat → Int32) (a8 : Nat → Int64) (a9 a10 a17 a18 : Nat → Int32), i + n = 8 → qz_ok pt a3 a4 a5 a6 a8 a9 a10 T → qz_dep T n i s = some m → ∀ f, n < f →
      wX_depends_14 post (nI 12) f s (nI i) c0 pt pn lc cl mv ts lv fa a1 a2 a3 a4 a5 a6 a7 a8 a9 a10 a11 a12 a13 a14 a15 a16 a17 a18 := by
  have hl := hw.2.1
  have g12 : a1 12 = nI 23 := by rw [(hw.2.2 12 h12).1, e12]
  have hin : vp_in (nI 12) 40 := vp_in_nI (by decide) (by decide)
  intro n
  induction n with
  | zero =>
    intro i s pt a3 a4 a5 a6 a8 a9 a10 a17 a18 hn hq hm f hf
    obtain ⟨f, rfl⟩ : ∃ g, f = g + 1 := ⟨f - 1, by omega⟩
    cases hm
    exact br_t (nI_le (a := 8) (by omega) (by omega)) (H _ _ _ _ _ _ _ _ _ _ hq)
  | succ n ih =>
    intro i s pt a3 a4 a5 a6 a8 a9 a10 a17 a18 hn hq hm f hf
    obtain ⟨f, rfl⟩ : ∃ g, f = g + 1 := ⟨f - 1, by omega⟩
    have q1 := hq.1.1
    have q2 := hq.1.2.1
    rw [qz_dep] at hm
    cases t : qz_fix T i 0 with
    | none => rw [t] at hm; cases hm
    | some w =>
      obtain ⟨lo, T1⟩ := w
      rw [t] at hm
      dsimp only at hm
      cases t2 : qz_fix T1 i 1 with
      | none => rw [t2] at hm; cases hm
      | some w2 =>
        obtain ⟨hi, T2⟩ := w2
        rw [t2] at hm
        dsimp only at hm
        by_cases c : lo < 64 ∧ hi < 64 ∧ T.length ≤ T2.length ∧ T2.take T.length = T
        · rw [if_pos c] at hm
          obtain ⟨c1, c2, c3, c4⟩ := c
          refine br_f (nI_ge (b := 8) (by omega) (by decide)) ⟨hin, ?_⟩
          rw [nI_clamp (show 12 < 2 ^ 31 by decide), g12]
          refine qw_fix (v := 0) hq (by omega) (by omega) t (fun pt' a3' a4' a5' a6' a8' a9' a10' a17' a18' ok => ?_)
          refine ⟨hin, ?_⟩
          rw [g12]
          refine qw_fix (v := 1) ok (by omega) (by omega) t2 (fun pt2 b3 b4 b5 b6 b8 b9 b10 b17 b18 ok2 => ?_)
          have fin : ∀ z : Int32, z = (if lo = hi then 0 else (1 : Int32) <<< (nI i &&& 31)) → wX_depends_69 post (wX_depends_14 post (nI 12) f) (nI 12) (nI i) pt z s c0 pt2 pn lc cl mv ts lv fa a1 a2 b3 b4 b5 b6 a7 b8 b9 b10 a11 a12 a13 a14 a15 a16 b17 b18 := by
            intro z hz
            unfold wX_depends_69
            rw [q1, hz]
            refine nm_e (qw_back (T := T2) q2 c3 ok2 (fun pt3 d5 d9 ok3 => ?_))
            rw [c4] at ok3
            exact nm_r (nI_1 i) (ih (i + 1) _ _ _ _ _ _ _ _ _ _ _ (by omega) ok3 hm f (by omega))
          refine pk_eq lo hi (fun z => fin _ ?_) (fun z => fin _ ?_)
          · rw [if_pos z]
          · rw [if_neg z]
        · rw [if_neg c] at hm
          cases hm
theorem qw_dep {post : Int32 → St2 → Prop} {T : qz_T} {m : Int32} (hw : qz_ew c0 a1 E) (h12 : 12 < E.length) (e12 : E.getD 12 0 = 23) (hq : qz_ok pt a3 a4 a5 a6 a8 a9 a10 T) (hm : qz_dep T 8 0 0 = some m)
    (H : ∀ pt' a3' a4' a5' a6' a8' a9' a10' a17' a18', qz_ok pt' a3' a4' a5' a6' a8' a9' a10' T → post m (c0, pt', pn, lc, cl, mv, ts, lv, fa, a1, a2, a3', a4', a5', a6', a7, a8', a9', a10', a11, a12, a13, a14, a15, a16, a17', a18')) :
    wpX_depends post (c0, pt, pn, lc, cl, mv, ts, lv, fa, a1, a2, a3, a4, a5, a6, a7, a8, a9, a10, a11, a12, a13, a14, a15, a16, a17, a18) (nI 12) := by
  unfold wpX_depends
  dsimp only
  exact qw_wire hw h12 (br_f (by decide) ⟨9, qw_d14 hw h12 e12 H 8 0 0 pt a3 a4 a5 a6 a8 a9 a10 a17 a18 rfl hq hm 9 (by decide)⟩)
theorem qw_f12 {post : Int32 → Prop} {a : Nat} (hw : qz_ew c0 a1 E) (ha : a < E.length) : ∀ n b, b + n = a → post (nI (qz_fst E a n b)) → ∀ f, n < f → wX_first_12 post (nI a) c0 pt pn lc cl mv ts lv fa a1 a2 a3 a4 a5 a6 a7 a8 a9 a10 a11 a12 a13 a14 a15 a16 a17 a18 f (nI b) := by
  have hl := hw.2.1
  have ga := hw.2.2 a ha
  have hia : vp_in (nI a) 40 := vp_in_nI (by omega) (by decide)
  intro n
  induction n with
  | zero =>
    intro b hb hp f hf
    obtain ⟨f, rfl⟩ : ∃ g, f = g + 1 := ⟨f - 1, by omega⟩
    obtain rfl : b = a := by omega
    exact ⟨hia, hia, br_t rfl hp⟩
  | succ n ih =>
    intro b hb hp f hf
    obtain ⟨f, rfl⟩ : ∃ g, f = g + 1 := ⟨f - 1, by omega⟩
    have gb := hw.2.2 b (by omega)
    rw [qz_fst] at hp
    refine ⟨vp_in_nI (by omega) (by decide), hia, ?_⟩
    rw [nI_clamp (show a < 2 ^ 31 by omega), nI_clamp (show b < 2 ^ 31 by omega), ga.1, gb.1]
    refine pk_eq _ _ (fun z => ?_) (fun z => ?_) rfl rfl (by omega) (by omega)
    · rw [if_pos z] at hp
      exact hp
    · rw [if_neg z] at hp
      exact nm_r (nI_1 b) (ih (b + 1) (by omega) hp f (by omega))
theorem qz_fst_le {a : Nat} : ∀ n b, b + n = a → qz_fst E a n b ≤ a := by
  intro n
  induction n with
  | zero => intro b hb; rw [qz_fst]; omega
  | succ n ih =>
    intro b hb
    rw [qz_fst]
    split
    · omega
    · exact ih (b + 1) (by omega)
theorem qw_first {post : Int32 → Prop} {a : Nat} (hw : qz_ew c0 a1 E) (ha : a < E.length) (hp : post (nI (qz_fst E a a 0))) : wpX_first post (c0, pt, pn, lc, cl, mv, ts, lv, fa, a1, a2, a3, a4, a5, a6, a7, a8, a9, a10, a11, a12, a13, a14, a15, a16, a17, a18) (nI a) := by
  unfold wpX_first
  dsimp only
  exact qw_wire hw ha (br_f (by decide) ⟨a + 1, qw_f12 hw ha a 0 (by omega) hp (a + 1) (by omega)⟩)
theorem qw_groups {post : Int32 → Prop} (hw : qz_ew c0 a1 E) (hp : post (nI (qz_gr E E.length))) : wpX_groups post (c0, pt, pn, lc, cl, mv, ts, lv, fa, a1, a2, a3, a4, a5, a6, a7, a8, a9, a10, a11, a12, a13, a14, a15, a16, a17, a18) := by
  have hl := hw.2.1
  unfold wpX_groups
  dsimp only
  refine pk_loop (fun n i s => wX_groups_4 post c0 pt pn lc cl mv ts lv fa a1 a2 a3 a4 a5 a6 a7 a8 a9 a10 a11 a12 a13 a14 a15 a16 a17 a18 n s (nI i)) (fun i s => s = nI (qz_gr E i)) E.length 0 0 (by omega) rfl ?_ ?_
  · intro n s h
    refine pk_le E.length E.length (fun _ => ?_) (fun z => absurd z (by omega)) hw.1
    rw [h]
    exact hp
  · intro n i s hi h hw'
    refine pk_le E.length i (fun z => absurd z (by omega)) (fun _ => qw_first hw hi ?_) hw.1
    have le := qz_fst_le (E := E) (a := i) i 0 (by omega)
    refine pk_eq (qz_fst E i i 0) i (fun z => nm_e (nm_r (nI_1 i) (hw' _ ?_))) (fun z => nm_e (nm_r (nI_1 i) (hw' _ ?_)))
    · rw [qz_gr, if_pos z, h, nI_1]
    · rw [qz_gr, if_neg z, h]
      exact nI_add _ 0
theorem qw_equal {post : Int32 → Prop} {x y : Nat} (hw : qz_ew c0 a1 E) (hx : x < E.length) (hy : y < E.length) (e : E.getD x 0 = E.getD y 0) (hp : post 1) : wpX_equal post (c0, pt, pn, lc, cl, mv, ts, lv, fa, a1, a2, a3, a4, a5, a6, a7, a8, a9, a10, a11, a12, a13, a14, a15, a16, a17, a18) (nI x) (nI y) := by
  have hl := hw.2.1
  unfold wpX_equal
  dsimp only
  refine qw_wire hw hx (br_f (by decide) (qw_wire hw hy (br_f (by decide) ⟨vp_in_nI (by omega) (by decide), vp_in_nI (by omega) (by decide), ?_⟩)))
  rw [nI_clamp (show x < 2 ^ 31 by omega), nI_clamp (show y < 2 ^ 31 by omega), (hw.2.2 x hx).1, (hw.2.2 y hy).1, e]
  exact br_t rfl hp
theorem qw_const {post : Int32 → Prop} {x : Nat} (hw : qz_ew c0 a1 E) (hx : x < E.length) (h1 : 1 < E.getD x 0 → post (-3)) (h0 : E.getD x 0 ≤ 1 → post (nI (E.getD x 0))) : wpX_constant post (c0, pt, pn, lc, cl, mv, ts, lv, fa, a1, a2, a3, a4, a5, a6, a7, a8, a9, a10, a11, a12, a13, a14, a15, a16, a17, a18) (nI x) := by
  have hl := hw.2.1
  have g := hw.2.2 x hx
  have hin : vp_in (nI x) 40 := vp_in_nI (by omega) (by decide)
  unfold wpX_constant
  dsimp only
  refine qw_wire hw hx (br_f (by decide) ⟨hin, ?_⟩)
  rw [nI_clamp (show x < 2 ^ 31 by omega), g.1]
  exact pk_lt 1 _ h1 (fun z => ⟨hin, h0 z⟩) rfl rfl (by decide) (by omega)
end
end
section
/-! the law -/
section
theorem qz_gate_len {E E1 : List Nat} {T T1 : qz_T} {k a b c : Nat} (h : qz_gate E T k a b c = some (E1, T1)) : E1.length = E.length + 1 := by
  unfold qz_gate at h
  by_cases d : a < E.length ∧ b < E.length ∧ c < E.length ∧ E.length < 40
  · rw [if_pos d] at h
    cases t : qz_end T k (E.getD a 0) (E.getD b 0) (if k < 7 then 0 else E.getD c 0) with
    | none => rw [t] at h; cases h
    | some w =>
      obtain ⟨r, T2⟩ := w
      rw [t] at h
      dsimp only at h
      by_cases hr : r < 64
      · rw [if_pos hr] at h
        cases h
        simp
      · rw [if_neg hr] at h
        cases h
  · rw [if_neg d] at h
    cases h
def qz_mask (a b c : Nat) : Int32 := ((1 : Int32) <<< (nI a &&& 31) ||| (1 : Int32) <<< (nI b &&& 31)) ||| (1 : Int32) <<< (nI c &&& 31)
theorem qz_get {a b c : Nat} (h : qz_chk a b c = true) : ∃ E1 T1 E2 T2 E3 T3 E4 T4 E5 T5, qz_gate qz_E0 qz_T0 0 a b 0 = some (E1, T1) ∧ qz_gate E1 T1 4 a a 0 = some (E2, T2) ∧ qz_gate E2 T2 0 9 c 0 = some (E3, T3) ∧
    qz_gate E3 T3 1 8 10 0 = some (E4, T4) ∧ qz_gate E4 T4 7 a b c = some (E5, T5) ∧ E5.length = 13 ∧ qz_dep T5 8 0 0 = some (qz_mask a b c) ∧
    ∀ kind, kind < 7 → ∃ E6, qz_gate E5 T5 kind 11 12 3 = some (E6, T5) ∧ E6.length = 14 ∧ E6.getD 11 0 = 23 ∧ E6.getD 12 0 = 23 ∧
      (if kind = 2 then E6.getD 13 0 = 0 else if kind < 5 then 1 < E6.getD 13 0 else E6.getD 13 0 = 1) ∧ qz_gr E6 14 = (if kind ≤ 1 then 12 else 13) := by
  unfold qz_chk at h
  cases t : qz_run a b c with
  | none => rw [t] at h; cases h
  | some w =>
    obtain ⟨E5, T5⟩ := w
    rw [t] at h
    dsimp only at h
    unfold qz_run at t
    cases t1 : qz_gate qz_E0 qz_T0 0 a b 0 with
    | none => rw [t1] at t; cases t
    | some w1 =>
      obtain ⟨E1, T1⟩ := w1
      rw [t1] at t
      dsimp only at t
      cases t2 : qz_gate E1 T1 4 a a 0 with
      | none => rw [t2] at t; cases t
      | some w2 =>
        obtain ⟨E2, T2⟩ := w2
        rw [t2] at t
        dsimp only at t
        cases t3 : qz_gate E2 T2 0 9 c 0 with
        | none => rw [t3] at t; cases t
        | some w3 =>
          obtain ⟨E3, T3⟩ := w3
          rw [t3] at t
          dsimp only at t
          cases t4 : qz_gate E3 T3 1 8 10 0 with
          | none => rw [t4] at t; cases t
          | some w4 =>
            obtain ⟨E4, T4⟩ := w4
            rw [t4] at t
            dsimp only at t
            rw [Bool.and_eq_true, Bool.and_eq_true, Bool.and_eq_true, Bool.and_eq_true] at h
            obtain ⟨⟨⟨⟨h1, h2⟩, h3⟩, h4⟩, h5⟩ := h
            refine ⟨E1, T1, E2, T2, E3, T3, E4, T4, E5, T5, rfl, t2, t3, t4, t, of_decide_eq_true h1, of_decide_eq_true h4, fun kind hk => ?_⟩
            have h6 := List.all_eq_true.mp h5 kind (List.mem_range.mpr hk)
            cases t6 : qz_gate E5 T5 kind 11 12 3 with
            | none => rw [t6] at h6; cases h6
            | some w6 =>
              obtain ⟨E6, T6⟩ := w6
              rw [t6] at h6
              dsimp only at h6
              rw [Bool.and_eq_true, Bool.and_eq_true, Bool.and_eq_true, Bool.and_eq_true, Bool.and_eq_true] at h6
              obtain ⟨⟨⟨⟨⟨g1, g2⟩, g3⟩, g4⟩, g5⟩, g6⟩ := h6
              have e := of_decide_eq_true g1
              subst e
              refine ⟨E6, rfl, of_decide_eq_true g2, of_decide_eq_true g3, of_decide_eq_true g4, ?_, of_decide_eq_true g6⟩
              by_cases k2 : kind = 2
              · rw [if_pos k2] at g5 ⊢
                exact of_decide_eq_true g5
              · rw [if_neg k2] at g5 ⊢
                by_cases k5 : kind < 5
                · rw [if_pos k5] at g5 ⊢
                  exact of_decide_eq_true g5
                · rw [if_neg k5] at g5 ⊢
                  exact of_decide_eq_true g5
theorem qw_222 {post : Int32 → St0 → Prop} {mc ms kc ks : Nat} {a b c g : Nat} {x15 z : Int32} (hg : nI g = if x15 = 0 then 13 else 12) (hp : post 1 ()) :
    wL_lawOf_222 post mc ms (nI a) (nI b) (nI c) (qz_mask a b c) (nI g) x15 z z kc ks := by
  unfold wL_lawOf_222 wL_lawOf_258
  refine br_t rfl (br_t rfl (br_c (fun e => br_t ?_ hp) (fun e => br_t ?_ hp)))
  · rw [hg, if_pos e]
  · rw [hg, if_neg e]
theorem qw_const1 {c0 pt pn lc cl mv ts lv fa : Int32} {a1 a2 a3 a4 a5 a6 a7 : Nat → Int32} {a8 : Nat → Int64} {a9 a10 a11 a12 a13 a14 a15 a16 a17 a18 : Nat → Int32} {post : Int32 → Prop} {E : List Nat} {x : Nat} (hw : qz_ew c0 a1 E) (hx : x < E.length)
    (h : post (if 1 < E.getD x 0 then -3 else nI (E.getD x 0))) : wpX_constant post (c0, pt, pn, lc, cl, mv, ts, lv, fa, a1, a2, a3, a4, a5, a6, a7, a8, a9, a10, a11, a12, a13, a14, a15, a16, a17, a18) (nI x) := by
  refine qw_const hw hx (fun v => ?_) (fun v => ?_)
  · rw [if_pos v] at h
    exact h
  · rw [if_neg (by omega)] at h
    exact h
theorem qw_cell {post : Int32 → Prop} {L : Nat} {xs : Nat → Int32} (hL : L ≤ 4) (k : Nat) (hk : k < 4) (h : ∀ x, post x) : wpL_cellAt post L xs () (nI k) := by
  unfold wpL_cellAt
  exact pk_le L k (fun _ => h 0) (fun z => ⟨vp_in_nI z (by omega), h _⟩)
theorem qw_lawOf {post : Int32 → St0 → Prop} (hp : post 1 ()) (p0 p1 p2 p3 : Int32) : wpL_lawOf post 19 27846 () p0 p1 p2 p3 := by
  obtain ⟨a, ha, e0⟩ := pk_andE p0 (m := 7) 3 (by decide)
  obtain ⟨k1, hk1, e1⟩ := pk_andE p1 (m := 65535) 16 (by decide)
  obtain ⟨f, hf, e2⟩ := pk_andE p2 (m := 3) 2 (by decide)
  obtain ⟨k3, hk3, e3⟩ := pk_andE p3 (m := 65535) 16 (by decide)
  have r1 : nI k1 - nI k1 / 3 * 3 = nI (k1 % 3) := pk_rem (d := 3) (by omega) (by decide) (by decide)
  have r3 : nI k3 - nI k3 / 7 * 7 = nI (k3 % 7) := pk_rem (d := 7) (by omega) (by decide) (by decide)
  have eb : ((nI a + 1) + nI (k1 % 3)) &&& 7 = nI ((a + 1 + k1 % 3) % 8) := by
    rw [nI_1, nI_add]
    exact pk_andN (by omega) 3 (by decide)
  have ec : ((nI a + 4) + nI f) &&& 7 = nI ((a + 4 + f) % 8) := by
    show ((nI a + nI 4) + nI f) &&& 7 = _
    rw [nI_add, nI_add]
    exact pk_andN (by omega) 3 (by decide)
  have all := qz_get (qz_all a ha (k1 % 3) (by omega) f hf)
  have hkind : k3 % 7 < 7 := by omega
  generalize hb : (a + 1 + k1 % 3) % 8 = b at all eb
  generalize hc : (a + 4 + f) % 8 = c at all ec
  generalize k3 % 7 = kind at hkind r3
  obtain ⟨E1, T1, E2, T2, E3, T3, E4, T4, E5, T5, g1, g2, g3, g4, g5, l5, dep, rest⟩ := all
  obtain ⟨E6, g6, l6, s11, s12, s13, gr⟩ := rest kind hkind
  have l4 : E4.length = 12 := by have := qz_gate_len g5; omega
  unfold wpL_lawOf
  refine ⟨by decide, by decide, 18, 27819, by decide, by decide, ?_⟩
  refine qw_init (by decide) (by decide) (fun a1 a2 a3 a4 a5 a6 a7 a8 a9 a10 a11 a12 a13 a14 a15 a16 a17 a18 ew ok => ?_)
  dsimp only
  rw [e0, e1, e2, e3, r1, r3]
  refine nm_e ⟨by decide, nm_r eb (nm_r ec ⟨by decide, nm_e ?_⟩)⟩
  refine qw_gate (kind := 0) (z := 0) ew ok (by decide) g1 (fun pt c0 a1 a2 a3 a4 a5 a6 a8 a9 a10 ew ok => ?_)
  dsimp only
  refine qw_gate (kind := 4) (z := 0) ew ok (by decide) g2 (fun pt c0 a1 a2 a3 a4 a5 a6 a8 a9 a10 ew ok => ?_)
  dsimp only
  refine qw_gate (kind := 0) (x := 9) (z := 0) ew ok (by decide) g3 (fun pt c0 a1 a2 a3 a4 a5 a6 a8 a9 a10 ew ok => ?_)
  dsimp only
  refine qw_gate (kind := 1) (x := 8) (y := 10) (z := 0) ew ok (by decide) g4 (fun pt c0 a1 a2 a3 a4 a5 a6 a8 a9 a10 ew ok => ?_)
  dsimp only
  refine qw_gate (kind := 7) ew ok (by decide) g5 (fun pt c0 a1 a2 a3 a4 a5 a6 a8 a9 a10 ew ok => ?_)
  dsimp only
  refine qw_gate (x := 11) (y := 12) (z := 3) ew ok (by omega) g6 (fun pt c0 a1 a2 a3 a4 a5 a6 a8 a9 a10 ew ok => ?_)
  dsimp only
  refine qw_equal (x := 11) (y := 12) ew (by omega) (by omega) (by rw [s11, s12]) ?_
  have fin : ∀ r : Int32, (r = if kind = 2 then 0 else if kind < 5 then -3 else 1) → ∀ z0 : Int32, (nI (qz_gr E6 E6.length) = if z0 = 0 then 13 else 12) →
      wL_lawOf_177 post 19 27846 (nI a) (nI b) (nI c) (nI kind) (nI E4.length) (nI E5.length) 1 r (qz_mask a b c) (nI (qz_gr E6 E6.length)) z0 (1 + 18) (27 + 27819) := by
    intro r hr z0 hz
    unfold wL_lawOf_177
    rw [l4, l5]
    refine br_t rfl (br_t rfl (br_f (by decide) (pk_eq kind 2 (fun k2 => ?_) (fun k2 => pk_lt kind 5 (fun k5 => ?_) (fun k5 => ?_)))))
    · rw [if_pos k2] at hr
      rw [hr]
      exact qw_222 hz hp
    · rw [if_neg k2, if_pos k5] at hr
      rw [hr]
      exact qw_222 hz hp
    · rw [if_neg k2, if_neg (by omega)] at hr
      rw [hr]
      exact qw_222 hz hp
  refine qw_const1 (x := 13) ew (by omega) ?_
  have hr : (if 1 < E6.getD 13 0 then (-3 : Int32) else nI (E6.getD 13 0)) = if kind = 2 then 0 else if kind < 5 then -3 else 1 := by
    by_cases k2 : kind = 2
    · rw [if_pos k2] at s13 ⊢
      rw [s13, if_neg (by omega)]; rfl
    · rw [if_neg k2] at s13 ⊢
      by_cases k5 : kind < 5
      · rw [if_pos k5] at s13 ⊢
        rw [if_pos s13]
      · rw [if_neg k5] at s13 ⊢
        rw [s13, if_neg (by omega)]; rfl
  refine qw_dep ew (by omega) s12 ok dep (fun pt a3 a4 a5 a6 a8 a9 a10 a17 a18 ok => ?_)
  dsimp only
  refine qw_groups ew ?_
  rw [← l6] at gr
  refine pk_lt 1 kind (fun k1' => fin _ hr 0 ?_) (fun k1' => fin _ hr 1 ?_)
  · rw [gr, if_neg (by omega), if_pos rfl]; rfl
  · rw [gr, if_pos (by omega), if_neg (by decide)]; rfl
end
theorem i_vc (xs : Nat → Int32) (L : Nat) (hL : L ≤ 4) : wpL_law (fun r => r = 1) L xs := by
  unfold wpL_law
  refine qw_cell hL 0 (by decide) (fun x0 => qw_cell hL 1 (by decide) (fun x1 => qw_cell hL 2 (by decide) (fun x2 => qw_cell hL 3 (by decide) (fun x3 => ?_))))
  exact ⟨19, 27846, by decide, by decide, qw_lawOf rfl x0 x1 x2 x3⟩
end
