section
/-! rows taken from the kit's rows to paste (stores, numbers, branches; Int32 by its bits) -/
theorem pk_us {f : Nat → Int32} {k : Nat} {x : Int32} : upd f k x k = x := if_pos rfl
theorem pk_un {f : Nat → Int32} {k j : Nat} {x : Int32} (h : j ≠ k) : upd f k x j = f j := if_neg h
theorem pk_sub {a b : Nat} (h : b ≤ a) : nI a - nI b = nI (a - b) := by
  obtain ⟨c, rfl⟩ : ∃ c, a = c + b := ⟨a - b, by omega⟩
  rw [← nI_add, Int32.add_sub_cancel, Nat.add_sub_cancel]
theorem pk_m1 (n : Nat) : nI (n + 1) + (-1) = nI n := by
  rw [← nI_1, Int32.add_assoc, show (1 : Int32) + (-1) = 0 from rfl, Int32.add_zero]
theorem pk_mul (a b : Nat) : nI a * nI b = nI (a * b) := (Int32.ofNat_mul a b).symm
theorem pk_ix (x : Int32) {n : Nat} (hn : n < 2 ^ 31) : x < 0 ∨ nI n ≤ x ∨ ∃ j : Nat, j < n ∧ x = nI j := by
  by_cases h : x < 0
  · exact Or.inl h
  · obtain ⟨j, hj, rfl⟩ := nI_of h
    by_cases h2 : j < n
    · exact Or.inr (Or.inr ⟨j, h2, rfl⟩)
    · exact Or.inr (Or.inl (nI_le (by omega) hj))
theorem pk_le {x y : Int32} {A B : Prop} (a b : Nat) (f : a ≤ b → A) (g : b < a → B) (hx : x = nI a := by rfl) (hy : y = nI b := by rfl) (ha : a < 2 ^ 31 := by omega) (hb : b < 2 ^ 31 := by omega) : (x ≤ y → A) ∧ (¬ x ≤ y → B) := by
  subst hx hy
  rw [nI_leI ha hb]
  exact ⟨f, fun z => g (by omega)⟩
theorem pk_lt {x y : Int32} {A B : Prop} (a b : Nat) (f : a < b → A) (g : b ≤ a → B) (hx : x = nI a := by rfl) (hy : y = nI b := by rfl) (ha : a < 2 ^ 31 := by omega) (hb : b < 2 ^ 31 := by omega) : (x < y → A) ∧ (¬ x < y → B) := by
  subst hx hy
  rw [nI_ltI ha hb]
  exact ⟨f, fun z => g (by omega)⟩
theorem pk_eq {x y : Int32} {A B : Prop} (a b : Nat) (f : a = b → A) (g : a ≠ b → B) (hx : x = nI a := by rfl) (hy : y = nI b := by rfl) (ha : a < 2 ^ 31 := by omega) (hb : b < 2 ^ 31 := by omega) : (x = y → A) ∧ (¬ x = y → B) := by
  subst hx hy
  rw [nI_eq ha hb]
  exact ⟨f, g⟩
theorem pk_in {x : Int32} (n N : Nat) (h : n < N) (hx : x = nI n := by rfl) (hN : N < 2 ^ 31 := by omega) : vp_in x N := by
  subst hx
  exact vp_in_nI h hN
theorem pk_cl {x : Int32} (n : Nat) (hx : x = nI n := by rfl) (h : n < 2 ^ 31 := by omega) : x.toNatClampNeg = n := by
  subst hx
  exact nI_clamp h
theorem ek_if {c d A B : Prop} (e : c ↔ d) (f : d → A) (g : ¬ d → B) : (c → A) ∧ (¬ c → B) :=
  ⟨fun z => f (e.mp z), fun z => g (fun y => z (e.mpr y))⟩
theorem ek_v {α : Sort _} {P : α → Prop} {a b : α} (e : a = b) (h : P b) : P a := e ▸ h
theorem sb_m1 {p : Nat} (h : 0 < p) : nI p + (-1) = nI (p - 1) := by
  obtain ⟨q, rfl⟩ : ∃ q, p = q + 1 := ⟨p - 1, by omega⟩
  exact pk_m1 q
def bt (x : Int32) (i : Nat) : Bool := x.toBitVec.getLsbD i
theorem b_ext {x y : Int32} (h : ∀ i, i < 32 → bt x i = bt y i) : x = y := Int32.toBitVec_inj.mp (BitVec.eq_of_getLsbD_eq (fun i hi => h i hi))
theorem b_or (x y : Int32) (i : Nat) : bt (x ||| y) i = (bt x i || bt y i) := by unfold bt; rw [Int32.toBitVec_or, BitVec.getLsbD_or]
theorem b_and (x y : Int32) (i : Nat) : bt (x &&& y) i = (bt x i && bt y i) := by unfold bt; rw [Int32.toBitVec_and, BitVec.getLsbD_and]
theorem b_xor (x y : Int32) (i : Nat) : bt (x ^^^ y) i = (bt x i ^^ bt y i) := by unfold bt; rw [Int32.toBitVec_xor, BitVec.getLsbD_xor]
theorem b_big {x : Int32} {i : Nat} (h : 32 ≤ i) : bt x i = false := BitVec.getLsbD_of_ge _ _ h
theorem b_m1 : ∀ i, i < 32 → bt (-1) i = true := by decide +kernel
theorem b_0 (i : Nat) : bt 0 i = false := BitVec.getLsbD_zero
theorem s_l : ∀ n, n < 32 → ((nI n &&& 31).toBitVec.smod 32).toNat = n := by decide +kernel
theorem b_shl (n : Nat) (hn : n < 32) (x : Int32) {i : Nat} (hi : i < 32) : bt (x <<< (nI n &&& 31)) i = (decide (n ≤ i) && bt x (i - n)) := by
  unfold bt
  rw [Int32.toBitVec_shiftLeft]
  show (x.toBitVec <<< ((nI n &&& 31).toBitVec.smod 32).toNat).getLsbD i = _
  rw [s_l n hn, BitVec.getLsbD_shiftLeft]
  rcases Nat.lt_or_ge i n with h | h
  · simp [h, Nat.not_le.mpr h]
  · simp [hi, h, Nat.not_lt.mpr h]
theorem b_sshr (n : Nat) (hn : n < 32) (x : Int32) {i : Nat} (hi : i < 32) : bt (x >>> (nI n &&& 31)) i = if n + i < 32 then bt x (n + i) else bt x 31 := by
  unfold bt
  rw [Int32.toBitVec_shiftRight]
  show (x.toBitVec.sshiftRight ((nI n &&& 31).toBitVec.smod 32).toNat).getLsbD i = _
  rw [s_l n hn, BitVec.getLsbD_sshiftRight, BitVec.msb_eq_getLsbD_last]
  simp [hi]
end
section
/-! the pure pictures: expressions, rules, choices, values -/
theorem tc_cg {α : Sort _} {f : Nat → α} {i j : Nat} (e : i = j) : f i = f j := congrArg f e
def tc_mn (a b : Int32) : Int32 := if b ≤ a then b else a
def tc_mx (a b : Int32) : Int32 := if a ≤ b then b else a
def tc_pr (B : Nat → Int32) (s : Nat) (x : Int32) : Int32 := if B s = 0 then x else if x = 1 then 2 else x
def tc_cb (t x y : Int32) : Int32 := if t = 31 then tc_mn x y else if t = 32 then tc_mx x y else if t = 33 then (if x = y then 2 else 0) else (if y ≤ x then 0 else 2)
def tc_n1 : List Int32 → List Int32
  | [] => []
  | x :: l => (2 - x) :: l
def tc_n2 (t : Int32) : List Int32 → List Int32
  | [] => []
  | [x] => [x]
  | y :: x :: l => tc_cb t x y :: l
def tc_sp (v : Nat → Int32) (l : List Int32) (t : Int32) : List Int32 :=
  if 22 < t then (if t = 30 then tc_n1 l else tc_n2 t l) else (if 20 ≤ t then t - 20 else v t.toNatClampNeg) :: l
def tc_rn (v T : Nat → Int32) (b : Nat) : Nat → List Int32
  | 0 => []
  | i + 1 => tc_sp v (tc_rn v T b i) (T (b + i))
def tc_bo : List Int32 → Int32
  | [] => 2
  | [x] => x
  | _ :: y :: l => tc_bo (y :: l)
def tc_ev (v T : Nat → Int32) (b n : Nat) : Int32 := tc_bo (tc_rn v T b n)
def tc_hg (T : Nat → Int32) (b : Nat) : Nat → Nat
  | 0 => 0
  | i + 1 => if 22 < T (b + i) then (if T (b + i) = 30 then tc_hg T b i else tc_hg T b i - 1) else tc_hg T b i + 1
/-- a token t that may stand at height h -/
def tc_tk (ns h : Nat) (t : Int32) : Prop :=
  (∃ j, j < ns ∧ t = nI j) ∨ (∃ j, 20 ≤ j ∧ j ≤ 22 ∧ t = nI j) ∨ (t = 30 ∧ 1 ≤ h) ∨ (∃ j, 31 ≤ j ∧ j ≤ 34 ∧ t = nI j ∧ 2 ≤ h)
def tc_gs (ns : Nat) (T : Nat → Int32) (b n : Nat) : Prop := ∀ i, i < n → tc_tk ns (tc_hg T b i) (T (b + i))
/-- the array holds the list as a stack -/
def tc_Rs (sk : Nat → Int32) : List Int32 → Prop
  | [] => True
  | x :: l => sk l.length = x ∧ tc_Rs sk l
theorem tc_Rs_u {sk : Nat → Int32} {m : Nat} {x : Int32} : ∀ {l : List Int32}, tc_Rs sk l → l.length ≤ m → tc_Rs (upd sk m x) l
  | [], _, _ => True.intro
  | y :: l, h, hl => by
    have hl' : l.length + 1 ≤ m := hl
    exact ⟨(pk_un (by omega)).trans h.1, tc_Rs_u h.2 (by omega)⟩
theorem tc_Rs_bo {sk : Nat → Int32} : ∀ {l : List Int32}, 0 < l.length → tc_Rs sk l → sk 0 = tc_bo l
  | [], h, _ => absurd h (by decide)
  | [_], _, h => h.1
  | _ :: y :: l, _, h => tc_Rs_bo (l := y :: l) (Nat.succ_pos _) h.2
theorem tc_20 {j : Nat} (h : j < 20) : ¬ (20 : Int32) ≤ nI j := nI_ge (b := 20) h (by decide)
theorem tc_22 {j : Nat} (h : j ≤ 22) : ¬ (22 : Int32) < nI j := nI_nlt (a := 22) h (by decide)
theorem tc_22' {j : Nat} (h : 22 < j) (h2 : j < 2 ^ 31) : (22 : Int32) < nI j := nI_lt (a := 22) h h2
theorem tc_20' {j : Nat} (h : 20 ≤ j) (h2 : j < 2 ^ 31) : (20 : Int32) ≤ nI j := nI_le (a := 20) h h2
theorem tc_n30 {j : Nat} (h : j ≠ 30) (h2 : j < 2 ^ 31) : ¬ nI j = (30 : Int32) := fun z => h ((nI_eq (b := 30) h2 (by decide)).mp z)
theorem tc_sp_a {v : Nat → Int32} {l : List Int32} {j : Nat} (h : j < 20) : tc_sp v l (nI j) = v j :: l := by
  unfold tc_sp
  rw [if_neg (tc_22 (by omega)), if_neg (tc_20 h), nI_clamp (by omega)]
theorem tc_sp_b {v : Nat → Int32} {l : List Int32} {j : Nat} (h : 20 ≤ j) (h2 : j ≤ 22) : tc_sp v l (nI j) = (nI j - 20) :: l := by
  unfold tc_sp
  rw [if_neg (tc_22 h2), if_pos (tc_20' h (by omega))]
theorem tc_sp_c {v : Nat → Int32} {l : List Int32} : tc_sp v l 30 = tc_n1 l := by
  unfold tc_sp
  rw [if_pos (by decide), if_pos rfl]
theorem tc_sp_d {v : Nat → Int32} {l : List Int32} {j : Nat} (h : 31 ≤ j) (h2 : j ≤ 34) : tc_sp v l (nI j) = tc_n2 (nI j) l := by
  unfold tc_sp
  rw [if_pos (tc_22' (by omega) (by omega)), if_neg (tc_n30 (by omega) (by omega))]
theorem tc_hg_s {T : Nat → Int32} {b i : Nat} {t : Int32} (e : T (b + i) = t) : tc_hg T b (i + 1) = if 22 < t then (if t = 30 then tc_hg T b i else tc_hg T b i - 1) else tc_hg T b i + 1 := by
  subst e; rfl
/-- how a good token moves the height -/
theorem tc_tk_h {ns h : Nat} {t : Int32} (k : tc_tk ns h t) (hn : ns ≤ 12) : ((if 22 < t then (if t = 30 then h else h - 1) else h + 1) = h + 1 ∧ ¬ 22 < t) ∨ ((if 22 < t then (if t = 30 then h else h - 1) else h + 1) = h ∧ 1 ≤ h ∧ t = 30) ∨ ((if 22 < t then (if t = 30 then h else h - 1) else h + 1) = h - 1 ∧ 2 ≤ h ∧ 22 < t ∧ ¬ t = 30) := by
  rcases k with ⟨j, hj, rfl⟩ | ⟨j, h1, h2, rfl⟩ | ⟨rfl, h1⟩ | ⟨j, h1, h2, rfl, h3⟩
  · exact Or.inl ⟨if_neg (tc_22 (by omega)), tc_22 (by omega)⟩
  · exact Or.inl ⟨if_neg (tc_22 (by omega)), tc_22 (by omega)⟩
  · exact Or.inr (Or.inl ⟨by rw [if_pos (by decide), if_pos rfl], h1, rfl⟩)
  · have a := tc_22' (j := j) (by omega) (by omega)
    have c := tc_n30 (j := j) (by omega) (by omega)
    exact Or.inr (Or.inr ⟨by rw [if_pos a, if_neg c], h3, a, c⟩)
theorem tc_hg_p {ns : Nat} {T : Nat → Int32} {b : Nat} (hn : ns ≤ 12) : ∀ i, (∀ q, q < i → tc_tk ns (tc_hg T b q) (T (b + q))) → tc_hg T b i ≤ i ∧ (0 < i → 1 ≤ tc_hg T b i)
  | 0, _ => ⟨Nat.le_refl _, fun h => absurd h (by omega)⟩
  | i + 1, h => by
    obtain ⟨a, c⟩ := tc_hg_p hn i (fun q hq => h q (by omega))
    have k := tc_tk_h (h i (by omega)) hn
    rw [tc_hg_s rfl]
    rcases k with ⟨e, -⟩ | ⟨e, e2, -⟩ | ⟨e, e2, -⟩ <;> rw [e] <;> constructor <;> first | omega | (intro _; omega)
theorem tc_sp_l {v : Nat → Int32} {l : List Int32} {ns h : Nat} {t : Int32} (k : tc_tk ns h t) (hn : ns ≤ 12) (hl : l.length = h) : (tc_sp v l t).length = if 22 < t then (if t = 30 then h else h - 1) else h + 1 := by
  unfold tc_sp
  rcases tc_tk_h k hn with ⟨e, e1⟩ | ⟨e, e2, rfl⟩ | ⟨e, e2, e3, e4⟩
  · rw [e, if_neg e1, List.length_cons, hl]
  · rw [if_pos (by decide), if_pos rfl, if_pos (by decide), if_pos rfl]
    match l, hl with
    | [], hl => exact hl
    | x :: l, hl => exact hl
  · rw [e, if_pos e3, if_neg e4]
    match l, hl with
    | [], hl => have : 0 = h := hl; omega
    | [x], hl => have : 1 = h := hl; omega
    | y :: x :: l, hl => have : l.length + 2 = h := hl; show l.length + 1 = h - 1; omega
theorem tc_rn_l {v T : Nat → Int32} {ns b : Nat} (hn : ns ≤ 12) : ∀ i, (∀ q, q < i → tc_tk ns (tc_hg T b q) (T (b + q))) → (tc_rn v T b i).length = tc_hg T b i
  | 0, _ => rfl
  | i + 1, h => by
    have a := tc_rn_l (v := v) hn i (fun q hq => h q (by omega))
    rw [tc_hg_s rfl]
    exact tc_sp_l (h i (by omega)) hn a
/-- only the texts' own places count -/
theorem tc_hg_c {T T' : Nat → Int32} {b b' : Nat} : ∀ i, (∀ q, q < i → T (b + q) = T' (b' + q)) → tc_hg T b i = tc_hg T' b' i
  | 0, _ => rfl
  | i + 1, h => by
    have a := tc_hg_c i (fun q hq => h q (by omega))
    rw [tc_hg_s (h i (by omega)), tc_hg_s rfl, a]
theorem tc_gs_c {ns : Nat} {T T' : Nat → Int32} {b b' n : Nat} (h : ∀ q, q < n → T (b + q) = T' (b' + q)) (g : tc_gs ns T b n) : tc_gs ns T' b' n := by
  intro i hi
  have a := g i hi
  rw [tc_hg_c i (fun q hq => h q (by omega)), h i hi] at a
  exact a
theorem tc_sp_c2 {v v' : Nat → Int32} {l : List Int32} {ns h : Nat} {t : Int32} (k : tc_tk ns h t) (hn : ns ≤ 12) (hv : ∀ j, j < ns → t = nI j → v j = v' j) : tc_sp v l t = tc_sp v' l t := by
  rcases k with ⟨j, hj, rfl⟩ | ⟨j, h1, h2, rfl⟩ | ⟨rfl, h1⟩ | ⟨j, h1, h2, rfl, h3⟩
  · rw [tc_sp_a (by omega), tc_sp_a (by omega), hv j hj rfl]
  · rw [tc_sp_b h1 h2, tc_sp_b h1 h2]
  · rw [tc_sp_c, tc_sp_c]
  · rw [tc_sp_d h1 h2, tc_sp_d h1 h2]
theorem tc_rn_c {v v' T T' : Nat → Int32} {ns b b' n : Nat} (hn : ns ≤ 12) (g : tc_gs ns T b n) (hT : ∀ q, q < n → T (b + q) = T' (b' + q)) (hv : ∀ q j, q < n → j < ns → T (b + q) = nI j → v j = v' j) : ∀ i, i ≤ n → tc_rn v T b i = tc_rn v' T' b' i
  | 0, _ => rfl
  | i + 1, hi => by
    have a := tc_rn_c hn g hT hv i (by omega)
    show tc_sp v (tc_rn v T b i) (T (b + i)) = tc_sp v' (tc_rn v' T' b' i) (T' (b' + i))
    rw [a, ← hT i (by omega)]
    exact tc_sp_c2 (g i (by omega)) hn (fun j hj e => hv i j (by omega) hj e)
theorem tc_ev_c {v v' T T' : Nat → Int32} {ns b b' n : Nat} (hn : ns ≤ 12) (g : tc_gs ns T b n) (hT : ∀ q, q < n → T (b + q) = T' (b' + q)) (hv : ∀ q j, q < n → j < ns → T (b + q) = nI j → v j = v' j) : tc_ev v T b n = tc_ev v' T' b' n := by
  unfold tc_ev
  rw [tc_rn_c hn g hT hv n (Nat.le_refl _)]
/-! ===== rules ===== -/
def tc_ls (K A c : Nat → Int32) (kd a : Int32) : Nat → Nat → Int32 → Int32
  | 0, _, x => x
  | d + 1, r, x => tc_ls K A c kd a d (r + 1) (if K r = kd then (if A r = a then tc_mn x (c r) else x) else x)
def tc_gr (K D A c v : Nat → Int32) (kd b : Int32) : Nat → Nat → Int32 → Int32
  | 0, _, x => x
  | d + 1, r, x => tc_gr K D A c v kd b d (r + 1) (if K r = kd then (if D r = b then tc_mx x (tc_mn (v (A r).toNatClampNeg) (c r)) else x) else x)
def tc_df (K A D c : Nat → Int32) (s : Int32) : Nat → Nat → Int32
  | 0, _ => 0
  | d + 1, r => if K r = 1 then (if A r = s then (if c r = 0 then tc_df K A D c s d (r + 1) else tc_mn (D r) (c r)) else tc_df K A D c s d (r + 1)) else tc_df K A D c s d (r + 1)
theorem tc_ls_c {K A c c' : Nat → Int32} {kd a : Int32} : ∀ d r x, (∀ q, r ≤ q → q < r + d → K q = kd → A q = a → c q = c' q) → tc_ls K A c kd a d r x = tc_ls K A c' kd a d r x
  | 0, _, _, _ => rfl
  | d + 1, r, x, h => by
    have e : (if K r = kd then (if A r = a then tc_mn x (c r) else x) else x) = (if K r = kd then (if A r = a then tc_mn x (c' r) else x) else x) := by
      by_cases h1 : K r = kd
      · by_cases h2 : A r = a
        · rw [h r (by omega) (by omega) h1 h2]
        · rw [if_neg h2, if_neg h2]
      · rw [if_neg h1, if_neg h1]
    show tc_ls K A c kd a d (r + 1) _ = tc_ls K A c' kd a d (r + 1) _
    rw [e]
    exact tc_ls_c d (r + 1) _ (fun q h1 h2 => h q (by omega) (by omega))
theorem tc_gr_c {K D A c c' v v' : Nat → Int32} {kd b : Int32} : ∀ d r x, (∀ q, r ≤ q → q < r + d → K q = kd → D q = b → c q = c' q ∧ v (A q).toNatClampNeg = v' (A q).toNatClampNeg) → tc_gr K D A c v kd b d r x = tc_gr K D A c' v' kd b d r x
  | 0, _, _, _ => rfl
  | d + 1, r, x, h => by
    have e : (if K r = kd then (if D r = b then tc_mx x (tc_mn (v (A r).toNatClampNeg) (c r)) else x) else x) = (if K r = kd then (if D r = b then tc_mx x (tc_mn (v' (A r).toNatClampNeg) (c' r)) else x) else x) := by
      by_cases h1 : K r = kd
      · by_cases h2 : D r = b
        · obtain ⟨a1, a2⟩ := h r (by omega) (by omega) h1 h2
          rw [a1, a2]
        · rw [if_neg h2, if_neg h2]
      · rw [if_neg h1, if_neg h1]
    show tc_gr K D A c v kd b d (r + 1) _ = tc_gr K D A c' v' kd b d (r + 1) _
    rw [e]
    exact tc_gr_c d (r + 1) _ (fun q h1 h2 => h q (by omega) (by omega))
theorem tc_df_c {K A D c c' : Nat → Int32} {s : Int32} : ∀ d r, (∀ q, r ≤ q → q < r + d → K q = 1 → A q = s → c q = c' q) → tc_df K A D c s d r = tc_df K A D c' s d r
  | 0, _, _ => rfl
  | d + 1, r, h => by
    have ih := tc_df_c (D := D) d (r + 1) (fun q h1 h2 => h q (by omega) (by omega))
    show (if K r = 1 then (if A r = s then (if c r = 0 then tc_df K A D c s d (r + 1) else tc_mn (D r) (c r)) else tc_df K A D c s d (r + 1)) else tc_df K A D c s d (r + 1)) = (if K r = 1 then (if A r = s then (if c' r = 0 then tc_df K A D c' s d (r + 1) else tc_mn (D r) (c' r)) else tc_df K A D c' s d (r + 1)) else tc_df K A D c' s d (r + 1))
    rw [ih]
    by_cases h1 : K r = 1
    · by_cases h2 : A r = s
      · rw [h r (by omega) (by omega) h1 h2]
      · rw [if_neg h2, if_neg h2]
    · rw [if_neg h1, if_neg h1]
end
section
/-! counts -/
def tc_cn (P : Nat → Bool) : Nat → Nat
  | 0 => 0
  | k + 1 => tc_cn P k + (if P k = true then 1 else 0)
theorem tc_cn_1 {P : Nat → Bool} {k : Nat} (h : P k = true) : tc_cn P (k + 1) = tc_cn P k + 1 := by
  show tc_cn P k + (if P k = true then 1 else 0) = _
  rw [if_pos h]
theorem tc_cn_0 {P : Nat → Bool} {k : Nat} (h : P k = false) : tc_cn P (k + 1) = tc_cn P k := by
  show tc_cn P k + (if P k = true then 1 else 0) = _
  rw [if_neg (by rw [h]; decide), Nat.add_zero]
theorem tc_cn_le (P : Nat → Bool) : ∀ N, tc_cn P N ≤ N
  | 0 => Nat.le_refl _
  | N + 1 => by
    have a := tc_cn_le P N
    cases h : P N
    · rw [tc_cn_0 h]; omega
    · rw [tc_cn_1 h]; omega
theorem tc_cn_mono {P Q : Nat → Bool} : ∀ N, (∀ k, k < N → P k = true → Q k = true) → tc_cn P N ≤ tc_cn Q N
  | 0, _ => Nat.le_refl _
  | N + 1, h => by
    have a := tc_cn_mono N (fun k hk => h k (by omega))
    cases h1 : P N
    · rw [tc_cn_0 h1]
      cases h2 : Q N
      · rw [tc_cn_0 h2]; omega
      · rw [tc_cn_1 h2]; omega
    · rw [tc_cn_1 h1, tc_cn_1 (h N (by omega) h1)]; omega
theorem tc_cn_lt {P Q : Nat → Bool} {a : Nat} (hp : P a = false) (hq : Q a = true) : ∀ N, (∀ k, k < N → P k = true → Q k = true) → a < N → tc_cn P N < tc_cn Q N
  | 0, _, h => by omega
  | N + 1, h, ha => by
    rcases Nat.lt_or_ge a N with z | z
    · have x := tc_cn_lt hp hq N (fun k hk => h k (by omega)) z
      cases h1 : P N
      · rw [tc_cn_0 h1]
        cases h2 : Q N
        · rw [tc_cn_0 h2]; omega
        · rw [tc_cn_1 h2]; omega
      · rw [tc_cn_1 h1, tc_cn_1 (h N (by omega) h1)]; omega
    · obtain rfl : a = N := by omega
      have x := tc_cn_mono (P := P) (Q := Q) a (fun k hk => h k (by omega))
      rw [tc_cn_0 hp, tc_cn_1 hq]; omega
theorem tc_cn_t : ∀ N, tc_cn (fun _ => true) N = N
  | 0 => rfl
  | N + 1 => by rw [tc_cn_1 rfl, tc_cn_t N]
theorem tc_cn_f {P : Nat → Bool} : ∀ N, (∀ k, k < N → P k = false) → tc_cn P N = 0
  | 0, _ => rfl
  | N + 1, h => by rw [tc_cn_0 (h N (by omega)), tc_cn_f N (fun k hk => h k (by omega))]
theorem tc_cn_room {P : Nat → Bool} {a N : Nat} (hp : P a = false) (ha : a < N) : tc_cn P N < N := by
  have x := tc_cn_lt (Q := fun _ => true) hp rfl N (fun _ _ _ => rfl) ha
  rw [tc_cn_t] at x; exact x
theorem tc_cn_full {P : Nat → Bool} {N : Nat} (h : tc_cn P N = N) : ∀ k, k < N → P k = true := by
  intro k hk
  cases hp : P k
  · have x := tc_cn_room hp hk
    omega
  · rfl
theorem tc_cn_c {P Q : Nat → Bool} : ∀ N, (∀ k, k < N → P k = Q k) → tc_cn P N = tc_cn Q N
  | 0, _ => rfl
  | N + 1, h => by
    show tc_cn P N + (if P N = true then 1 else 0) = tc_cn Q N + (if Q N = true then 1 else 0)
    rw [tc_cn_c N (fun k hk => h k (by omega)), h N (by omega)]
theorem tc_cn_add {P Q : Nat → Bool} {a : Nat} (hp : P a = false) (hq : Q a = true) : ∀ N, (∀ k, k < N → k ≠ a → Q k = P k) → a < N → tc_cn Q N = tc_cn P N + 1
  | 0, _, h => by omega
  | N + 1, h, ha => by
    rcases Nat.lt_or_ge a N with z | z
    · have x := tc_cn_add hp hq N (fun k hk => h k (by omega)) z
      have e := h N (by omega) (by omega)
      cases h1 : P N
      · rw [tc_cn_0 h1, tc_cn_0 (e.trans h1)]; omega
      · rw [tc_cn_1 h1, tc_cn_1 (e.trans h1)]; omega
    · obtain rfl : a = N := by omega
      rw [tc_cn_0 hp, tc_cn_1 hq, tc_cn_c a (fun k hk => h k (by omega) (by omega))]
/-! ===== knots ===== -/
def tc_kn (H : Nat → Int32) (s : Nat) : Nat := if H s < 0 then s else 12 + (H s).toNatClampNeg
def tc_sj (K A D H : Nat → Int32) (r : Nat) : Nat :=
  if K r = 4 then 12 + (A r).toNatClampNeg else if K r = 2 then tc_kn H (D r).toNatClampNeg else if K r = 3 then tc_kn H (D r).toNatClampNeg else tc_kn H (A r).toNatClampNeg
/-- rule r mentions the symbol t -/
def tc_ms (K A R T : Nat → Int32) (r t : Nat) : Prop := ((K r = 2 ∨ K r = 3) ∧ A r = nI t) ∨ ∃ q, q < (R r).toNatClampNeg ∧ T (8 * r + q) = nI t
def tc_GR (ns nc ct : Nat) (K A D : Nat → Int32) : Prop :=
  ∀ r, r < ct → (K r = 4 ∧ ∃ a, a < nc ∧ A r = nI a) ∨ ((K r = 0 ∨ K r = 1) ∧ ∃ a, a < ns ∧ A r = nI a) ∨ ((K r = 2 ∨ K r = 3) ∧ (∃ a, a < ns ∧ A r = nI a) ∧ ∃ b, b < ns ∧ D r = nI b)
def tc_GH (nc : Nat) (H : Nat → Int32) : Prop := ∀ s, s < 12 → H s = -1 ∨ ∃ c, c < nc ∧ H s = nI c
def tc_GT (ns ct : Nat) (R T : Nat → Int32) : Prop := ∀ r, r < ct → ∃ n, n ≤ 8 ∧ R r = nI n ∧ tc_gs ns T (8 * r) n
def tc_RK (ns ct : Nat) (K A D H R T : Nat → Int32) (rk : Nat → Nat) : Prop :=
  (∀ k, k < 15 → rk k < 15) ∧ ∀ r t, r < ct → t < ns → tc_ms K A R T r t → rk (tc_kn H t) < rk (tc_sj K A D H r)
def tc_cv (R T v : Nat → Int32) (r : Nat) : Int32 := tc_ev v T (8 * r) (R r).toNatClampNeg
theorem tc_m1 : (-1 : Int32) < 0 := by decide
theorem tc_kn_n {H : Nat → Int32} {s : Nat} (h : H s < 0) : tc_kn H s = s := if_pos h
theorem tc_kn_c {H : Nat → Int32} {s c : Nat} (h : H s = nI c) (hc : c < 2 ^ 31) : tc_kn H s = 12 + c := by
  unfold tc_kn
  rw [h, if_neg (nI_pos hc), nI_clamp hc]
theorem tc_kn_15 {H : Nat → Int32} {nc s : Nat} (h : tc_GH nc H) (hc : nc ≤ 3) (hs : s < 12) : tc_kn H s < 15 := by
  rcases h s hs with e | ⟨c, h1, e⟩
  · rw [tc_kn_n (by rw [e]; exact tc_m1)]; omega
  · rw [tc_kn_c e (by omega)]; omega
theorem tc_sj_4 {K A D H : Nat → Int32} {r a : Nat} (h : K r = 4) (e : A r = nI a) (ha : a < 2 ^ 31) : tc_sj K A D H r = 12 + a := by
  unfold tc_sj
  rw [if_pos h, e, nI_clamp ha]
theorem tc_sj_2 {K A D H : Nat → Int32} {r b : Nat} (h : K r = 2) (e : D r = nI b) (hb : b < 2 ^ 31) : tc_sj K A D H r = tc_kn H b := by
  unfold tc_sj
  rw [if_neg (by rw [h]; decide), if_pos h, e, nI_clamp hb]
theorem tc_sj_3 {K A D H : Nat → Int32} {r b : Nat} (h : K r = 3) (e : D r = nI b) (hb : b < 2 ^ 31) : tc_sj K A D H r = tc_kn H b := by
  unfold tc_sj
  rw [if_neg (by rw [h]; decide), if_neg (by rw [h]; decide), if_pos h, e, nI_clamp hb]
theorem tc_sj_a {K A D H : Nat → Int32} {r a : Nat} (h : K r = 0 ∨ K r = 1) (e : A r = nI a) (ha : a < 2 ^ 31) : tc_sj K A D H r = tc_kn H a := by
  unfold tc_sj
  rcases h with h | h <;> rw [if_neg (by rw [h]; decide), if_neg (by rw [h]; decide), if_neg (by rw [h]; decide), e, nI_clamp ha]
theorem tc_sj_15 {ns nc ct : Nat} {K A D H : Nat → Int32} {r : Nat} (h : tc_GR ns nc ct K A D) (hH : tc_GH nc H) (hn : ns ≤ 12) (hc : nc ≤ 3) (hr : r < ct) : tc_sj K A D H r < 15 := by
  rcases h r hr with ⟨h4, a, h1, e⟩ | ⟨h0, a, h1, e⟩ | ⟨h2, -, b, h1, e⟩
  · rw [tc_sj_4 h4 e (by omega)]; omega
  · rw [tc_sj_a h0 e (by omega)]; exact tc_kn_15 hH hc (by omega)
  · rcases h2 with h2 | h2
    · rw [tc_sj_2 h2 e (by omega)]; exact tc_kn_15 hH hc (by omega)
    · rw [tc_sj_3 h2 e (by omega)]; exact tc_kn_15 hH hc (by omega)
/-! ===== values ===== -/
def tc_md (H mo : Nat → Int32) (s : Nat) : Int32 := if H s < 0 then 2 else mo (H s).toNatClampNeg
def tc_Lo (ct : Nat) (K D A B c v : Nat → Int32) (s : Nat) : Int32 := tc_pr B s (tc_gr K D A c v 2 (nI s) ct 0 0)
def tc_Mo (ct : Nat) (K A c : Nat → Int32) (a : Int32) : Int32 := tc_ls K A c 4 a ct 0 2
def tc_u1 (B : Nat → Int32) (dep m : Int32) (s : Nat) : Int32 := if m = 2 then tc_pr B s dep else if m = 0 then 0 else if B s = 0 then tc_mn dep 1 else 0
def tc_Up (ct : Nat) (K A B c : Nat → Int32) (m : Int32) (s : Nat) : Int32 := tc_u1 B (tc_ls K A c 0 (nI s) ct 0 2) m s
def tc_Fa (ct : Nat) (K A D B c v : Nat → Int32) (u : Int32) (s : Nat) : Int32 := tc_pr B s (tc_mn u (tc_mx (tc_df K A D c (nI s) ct 0) (tc_gr K D A c v 3 (nI s) ct 0 0)))
def tc_mt (lo fa U : Nat → Int32) (ln s : Nat) : Bool := if ln = 1 then decide (lo s = 2) else if ln = 2 then decide (U s = 2) else (!decide (U s = 0) && (decide (ln = 4) || decide (fa s = 2)))
def tc_ft (lo up fa U : Nat → Int32) (ln s : Nat) : Bool := decide (up s = 2) && tc_mt lo fa U ln s
def tc_w1 (o : Option Nat) (z : Int32) : Int32 := match o with | some s => nI s | none => z
def tc_wn (P : Nat → Nat → Bool) (l : List Nat) : Nat → Nat → Int32
  | 0, _ => -10
  | d + 1, ln => tc_w1 (l.find? (P ln)) (tc_wn P l d (ln + 1))
def tc_Wi (U lo up fa : Nat → Int32) (l : List Nat) (m : Int32) : Int32 := if m = 2 then tc_wn (tc_ft lo up fa U) l 4 1 else -10
def tc_ws (U : Nat → Int32) (u f : Int32) (s : Nat) : Int32 := if U s = 3 then f else tc_mn (U s) u
def tc_Va (U H : Nat → Int32) (l u f m w : Int32) (s : Nat) : Int32 := if H s < 0 then tc_mx l (tc_ws U u f s) else if m = 2 then (if w = nI s then 2 else l) else tc_mx l (tc_ws U u f s)
theorem tc_wn_c {P P' : Nat → Nat → Bool} {l : List Nat} (h : ∀ ln s, s ∈ l → P ln s = P' ln s) : ∀ d ln, tc_wn P l d ln = tc_wn P' l d ln
  | 0, _ => rfl
  | d + 1, ln => by
    have key : ∀ l' : List Nat, (∀ s, s ∈ l' → P ln s = P' ln s) → l'.find? (P ln) = l'.find? (P' ln) := by
      intro l'
      induction l' with
      | nil => intro _; rfl
      | cons x l' ih =>
        intro h'
        rw [List.find?_cons, List.find?_cons, h' x List.mem_cons_self, ih (fun s hs => h' s (List.mem_cons_of_mem _ hs))]
    show tc_w1 _ _ = tc_w1 _ _
    rw [key l (h ln), tc_wn_c h d (ln + 1)]
theorem tc_Wi_c {U lo up fa lo' up' fa' : Nat → Int32} {l : List Nat} {m : Int32} (h : ∀ s, s ∈ l → lo s = lo' s ∧ up s = up' s ∧ fa s = fa' s) : tc_Wi U lo up fa l m = tc_Wi U lo' up' fa' l m := by
  unfold tc_Wi
  rw [tc_wn_c (P := tc_ft lo up fa U) (P' := tc_ft lo' up' fa' U) (fun ln s hs => ?_)]
  obtain ⟨a, b, c⟩ := h s hs
  unfold tc_ft tc_mt
  rw [a, b, c]
/-- the values of a knot rest on its own rules alone -/
theorem tc_cgr {nc ct : Nat} {K A D H B c c' v v' : Nat → Int32} {s k : Nat} (hH : tc_GH nc H) (hnc : nc ≤ 3) (hs : s < 12) (hk : tc_kn H s = k)
    (hc : ∀ r, r < ct → tc_sj K A D H r = k → c r = c' r) (hv : ∀ r, r < ct → tc_sj K A D H r = k → K r = 2 ∨ K r = 3 → v (A r).toNatClampNeg = v' (A r).toNatClampNeg) :
    tc_Lo ct K D A B c v s = tc_Lo ct K D A B c' v' s ∧ (∀ m, tc_Up ct K A B c m s = tc_Up ct K A B c' m s) ∧ (∀ u, tc_Fa ct K A D B c v u s = tc_Fa ct K A D B c' v' u s) ∧ (¬ H s < 0 → tc_Mo ct K A c (H s) = tc_Mo ct K A c' (H s)) := by
  subst hk
  have s31 : s < 2 ^ 31 := by omega
  have g2 : tc_gr K D A c v 2 (nI s) ct 0 0 = tc_gr K D A c' v' 2 (nI s) ct 0 0 := tc_gr_c ct 0 0 (fun q _ hq h1 h2 => by
    have e := tc_sj_2 (A := A) (H := H) h1 h2 s31
    exact ⟨hc q (by omega) e, hv q (by omega) e (Or.inl h1)⟩)
  have g3 : tc_gr K D A c v 3 (nI s) ct 0 0 = tc_gr K D A c' v' 3 (nI s) ct 0 0 := tc_gr_c ct 0 0 (fun q _ hq h1 h2 => by
    have e := tc_sj_3 (A := A) (H := H) h1 h2 s31
    exact ⟨hc q (by omega) e, hv q (by omega) e (Or.inr h1)⟩)
  have l0 : tc_ls K A c 0 (nI s) ct 0 2 = tc_ls K A c' 0 (nI s) ct 0 2 := tc_ls_c ct 0 2 (fun q _ hq h1 h2 => hc q (by omega) (tc_sj_a (D := D) (H := H) (Or.inl h1) h2 s31))
  have d1 : tc_df K A D c (nI s) ct 0 = tc_df K A D c' (nI s) ct 0 := tc_df_c ct 0 (fun q _ hq h1 h2 => hc q (by omega) (tc_sj_a (D := D) (H := H) (Or.inr h1) h2 s31))
  refine ⟨?_, fun m => ?_, fun u => ?_, fun hn => ?_⟩
  · unfold tc_Lo; rw [g2]
  · unfold tc_Up; rw [l0]
  · unfold tc_Fa; rw [d1, g3]
  · rcases hH s hs with e | ⟨a, ha, e⟩
    · rw [e] at hn; exact absurd tc_m1 hn
    · unfold tc_Mo
      exact tc_ls_c ct 0 2 (fun q _ hq h1 h2 => hc q (by omega) (by
        rw [tc_sj_4 (D := D) (H := H) h1 (h2.trans e) (by omega), tc_kn_c e (by omega)]))
theorem tc_cgm {ct : Nat} {K A D H c c' : Nat → Int32} {a k : Nat} (ha : a < 2 ^ 31) (hk : 12 + a = k) (hc : ∀ r, r < ct → tc_sj K A D H r = k → c r = c' r) : tc_Mo ct K A c (nI a) = tc_Mo ct K A c' (nI a) := by
  subst hk
  exact tc_ls_c ct 0 2 (fun q _ hq h1 h2 => hc q (by omega) (tc_sj_4 (D := D) (H := H) h1 h2 ha))
/-- the knot k is settled -/
def tc_Se (ct : Nat) (M : Nat → List Nat) (K A D B U H R T co va lo up fa mo wi : Nat → Int32) (k : Nat) : Prop :=
  (∀ r, r < ct → tc_sj K A D H r = k → co r = tc_cv R T va r) ∧
  (∀ c, c < 3 → 12 + c = k → mo c = tc_Mo ct K A co (nI c) ∧ wi c = tc_Wi U lo up fa (M c) (mo c)) ∧
  (∀ s, s < 12 → tc_kn H s = k → lo s = tc_Lo ct K D A B co va s ∧ up s = tc_Up ct K A B co (tc_md H mo s) s ∧ fa s = tc_Fa ct K A D B co va (up s) s ∧
    va s = tc_Va U H (lo s) (up s) (fa s) (tc_md H mo s) (wi (H s).toNatClampNeg) s)
def tc_MM (M : Nat → List Nat) (H : Nat → Int32) : Prop := ∀ c, c < 3 → ∀ m, m ∈ M c → m < 12 ∧ H m = nI c
theorem tc_cv_c {ns ct : Nat} {K A R T v v' : Nat → Int32} {r : Nat} (hn : ns ≤ 12) (hT : tc_GT ns ct R T) (hr : r < ct) (h : ∀ t, t < ns → tc_ms K A R T r t → v t = v' t) : tc_cv R T v r = tc_cv R T v' r := by
  obtain ⟨n, h8, e, g⟩ := hT r hr
  have en : (R r).toNatClampNeg = n := by rw [e]; exact nI_clamp (by omega)
  unfold tc_cv
  rw [en]
  exact tc_ev_c hn g (fun _ _ => rfl) (fun q j hq hj z => h j hj (Or.inr ⟨q, by rw [en]; exact hq, z⟩))
theorem tc_va_c {ns nc ct : Nat} {K A D R T v v' : Nat → Int32} {r : Nat} (hn : ns ≤ 12) (hR : tc_GR ns nc ct K A D) (hr : r < ct) (h : ∀ t, t < ns → tc_ms K A R T r t → v t = v' t) (h23 : K r = 2 ∨ K r = 3) : v (A r).toNatClampNeg = v' (A r).toNatClampNeg := by
  rcases hR r hr with ⟨h4, -⟩ | ⟨h0, -⟩ | ⟨-, ⟨a, ha, e⟩, -⟩
  · rcases h23 with h2 | h2 <;> exact absurd (h4.symm.trans h2) (by decide)
  · rcases h23 with h2 | h2 <;> rcases h0 with h0 | h0 <;> exact absurd (h0.symm.trans h2) (by decide)
  · have ea : (A r).toNatClampNeg = a := by rw [e]; exact nI_clamp (by omega)
    rw [ea]
    exact h a ha (Or.inl ⟨h23, e⟩)
/-- a settled knot stays settled when others change -/
theorem tc_Se_k {ns nc ct : Nat} {M : Nat → List Nat} {K A D B U H R T co va lo up fa mo wi co' va' lo' up' fa' mo' wi' : Nat → Int32} {k : Nat}
    (hn : ns ≤ 12) (hnc : nc ≤ 3) (hR : tc_GR ns nc ct K A D) (hH : tc_GH nc H) (hT : tc_GT ns ct R T) (hM : tc_MM M H)
    (h : tc_Se ct M K A D B U H R T co va lo up fa mo wi k)
    (hco : ∀ r, r < ct → tc_sj K A D H r = k → co' r = co r) (hvn : ∀ r t, r < ct → t < ns → tc_sj K A D H r = k → tc_ms K A R T r t → va' t = va t)
    (hs : ∀ s, s < 12 → tc_kn H s = k → va' s = va s ∧ lo' s = lo s ∧ up' s = up s ∧ fa' s = fa s) (hm : ∀ c, c < 3 → 12 + c = k → mo' c = mo c ∧ wi' c = wi c) :
    tc_Se ct M K A D B U H R T co' va' lo' up' fa' mo' wi' k := by
  obtain ⟨h1, h2, h3⟩ := h
  have hv : ∀ r, r < ct → tc_sj K A D H r = k → K r = 2 ∨ K r = 3 → va' (A r).toNatClampNeg = va (A r).toNatClampNeg := fun r hr e h23 => tc_va_c hn hR hr (fun t ht m => hvn r t hr ht e m) h23
  refine ⟨fun r hr e => ?_, fun c hc e => ?_, fun s hs1 e => ?_⟩
  · rw [hco r hr e, h1 r hr e]
    exact (tc_cv_c hn hT hr (fun t ht m => hvn r t hr ht e m)).symm
  · obtain ⟨a1, a2⟩ := h2 c hc e
    obtain ⟨b1, b2⟩ := hm c hc e
    refine ⟨by rw [b1, a1]; exact (tc_cgm (D := D) (H := H) (by omega) e hco).symm, ?_⟩
    rw [b2, b1, a2]
    exact tc_Wi_c (fun m hmm => by
      obtain ⟨c1, c2⟩ := hM c hc m hmm
      obtain ⟨-, d2, d3, d4⟩ := hs m c1 ((tc_kn_c c2 (by omega)).trans e)
      exact ⟨d2.symm, d3.symm, d4.symm⟩)
  · obtain ⟨a1, a2, a3, a4⟩ := h3 s hs1 e
    obtain ⟨b1, b2, b3, b4⟩ := hs s hs1 e
    obtain ⟨g1, g2, g3, g4⟩ := tc_cgr (B := B) hH hnc hs1 e hco hv
    have em : tc_md H mo' s = tc_md H mo s := by
      unfold tc_md
      rcases hH s hs1 with z | ⟨c, hc, z⟩
      · rw [if_pos (by rw [z]; exact tc_m1), if_pos (by rw [z]; exact tc_m1)]
      · rw [z, nI_clamp (by omega), (hm c (by omega) ((tc_kn_c z (by omega)).symm.trans e)).1]
    have ew : ¬ H s < 0 → wi' (H s).toNatClampNeg = wi (H s).toNatClampNeg := by
      intro hn0
      rcases hH s hs1 with z | ⟨c, hc, z⟩
      · rw [z] at hn0; exact absurd tc_m1 hn0
      · rw [z, nI_clamp (by omega)]
        exact (hm c (by omega) ((tc_kn_c z (by omega)).symm.trans e)).2
    refine ⟨by rw [b2, a1, g1], by rw [b3, a2, em, g2], by rw [b4, a3, b3, g3], ?_⟩
    rw [b1, b2, b3, b4, em, a4]
    unfold tc_Va
    by_cases z : H s < 0
    · rw [if_pos z, if_pos z]
    · rw [if_neg z, if_neg z, ew z]
end
section
/-! memberships: the reference's list of joins, the component's table -/
def tc_lk (S C : Nat → Int32) (s : Int32) : Nat → Nat → Int32
  | 0, _ => -1
  | d + 1, i => if S i = s then C i else tc_lk S C s d (i + 1)
def tc_ml (S C : Nat → Int32) (c : Int32) : Nat → Nat → List Nat
  | 0, _ => []
  | d + 1, i => if C i = c then (S i).toNatClampNeg :: tc_ml S C c d (i + 1) else tc_ml S C c d (i + 1)
theorem tc_lk_1 {S C : Nat → Int32} {s : Int32} : ∀ d i, tc_lk S C s d i = -1 ∨ ∃ j, i ≤ j ∧ j < i + d ∧ S j = s ∧ tc_lk S C s d i = C j
  | 0, _ => Or.inl rfl
  | d + 1, i => by
    show (if S i = s then C i else tc_lk S C s d (i + 1)) = -1 ∨ ∃ j, i ≤ j ∧ j < i + (d + 1) ∧ S j = s ∧ (if S i = s then C i else tc_lk S C s d (i + 1)) = C j
    by_cases h : S i = s
    · rw [if_pos h]; exact Or.inr ⟨i, by omega, by omega, h, rfl⟩
    · rw [if_neg h]
      rcases tc_lk_1 (S := S) (C := C) (s := s) d (i + 1) with z | ⟨j, h1, h2, h3, h4⟩
      · exact Or.inl z
      · exact Or.inr ⟨j, by omega, by omega, h3, h4⟩
theorem tc_lk_2 {S C : Nat → Int32} {s : Int32} : ∀ d i j, (∀ p q, i ≤ p → p < i + d → i ≤ q → q < i + d → S p = S q → p = q) → i ≤ j → j < i + d → S j = s → tc_lk S C s d i = C j
  | 0, i, j, _, h1, h2, _ => by omega
  | d + 1, i, j, hd, h1, h2, e => by
    show (if S i = s then C i else tc_lk S C s d (i + 1)) = C j
    by_cases h : S i = s
    · rw [if_pos h, hd i j (by omega) (by omega) h1 h2 (h.trans e.symm)]
    · rw [if_neg h]
      have hij : i ≠ j := fun z => h (by rw [z]; exact e)
      exact tc_lk_2 d (i + 1) j (fun p q a b c f g => hd p q (by omega) (by omega) (by omega) (by omega) g) (by omega) (by omega) e
theorem tc_lk_c {S C S' C' : Nat → Int32} {s : Int32} : ∀ d i, (∀ j, i ≤ j → j < i + d → S j = S' j ∧ C j = C' j) → tc_lk S C s d i = tc_lk S' C' s d i
  | 0, _, _ => rfl
  | d + 1, i, h => by
    show (if S i = s then C i else tc_lk S C s d (i + 1)) = (if S' i = s then C' i else tc_lk S' C' s d (i + 1))
    rw [(h i (by omega) (by omega)).1, (h i (by omega) (by omega)).2, tc_lk_c d (i + 1) (fun j a b => h j (by omega) (by omega))]
theorem tc_lk_a {S C : Nat → Int32} {s : Int32} : ∀ d i, ¬ S (i + d) = s → tc_lk S C s (d + 1) i = tc_lk S C s d i
  | 0, i, h => by
    show (if S i = s then C i else -1) = -1
    exact if_neg h
  | d + 1, i, h => by
    show (if S i = s then C i else tc_lk S C s (d + 1) (i + 1)) = (if S i = s then C i else tc_lk S C s d (i + 1))
    rw [tc_lk_a d (i + 1) (by rw [show i + 1 + d = i + (d + 1) from by omega]; exact h)]
theorem tc_ml_m {S C : Nat → Int32} {c : Int32} {m : Nat} : ∀ d i, m ∈ tc_ml S C c d i ↔ ∃ j, i ≤ j ∧ j < i + d ∧ C j = c ∧ m = (S j).toNatClampNeg
  | 0, i => ⟨fun h => absurd h List.not_mem_nil, fun ⟨j, h1, h2, _⟩ => by omega⟩
  | d + 1, i => by
    have ih := tc_ml_m (S := S) (C := C) (c := c) (m := m) d (i + 1)
    by_cases h : C i = c
    · have e : tc_ml S C c (d + 1) i = (S i).toNatClampNeg :: tc_ml S C c d (i + 1) := if_pos h
      rw [e, List.mem_cons, ih]
      constructor
      · rintro (z | ⟨j, h1, h2, h3, h4⟩)
        · exact ⟨i, by omega, by omega, h, z⟩
        · exact ⟨j, by omega, by omega, h3, h4⟩
      · rintro ⟨j, h1, h2, h3, h4⟩
        by_cases z : j = i
        · subst z; exact Or.inl h4
        · exact Or.inr ⟨j, by omega, by omega, h3, h4⟩
    · have e : tc_ml S C c (d + 1) i = tc_ml S C c d (i + 1) := if_neg h
      rw [e, ih]
      constructor
      · rintro ⟨j, h1, h2, h3, h4⟩
        exact ⟨j, by omega, by omega, h3, h4⟩
      · rintro ⟨j, h1, h2, h3, h4⟩
        have z : j ≠ i := fun z => h (by rw [← z]; exact h3)
        exact ⟨j, by omega, by omega, h3, h4⟩
theorem tc_ml_c {S C S' C' : Nat → Int32} {c : Int32} : ∀ d i, (∀ j, i ≤ j → j < i + d → S j = S' j ∧ C j = C' j) → tc_ml S C c d i = tc_ml S' C' c d i
  | 0, _, _ => rfl
  | d + 1, i, h => by
    show (if C i = c then (S i).toNatClampNeg :: tc_ml S C c d (i + 1) else tc_ml S C c d (i + 1)) = (if C' i = c then (S' i).toNatClampNeg :: tc_ml S' C' c d (i + 1) else tc_ml S' C' c d (i + 1))
    rw [(h i (by omega) (by omega)).1, (h i (by omega) (by omega)).2, tc_ml_c d (i + 1) (fun j a b => h j (by omega) (by omega))]
theorem tc_ml_a {S C : Nat → Int32} {c : Int32} : ∀ d i, tc_ml S C c (d + 1) i = tc_ml S C c d i ++ (if C (i + d) = c then [(S (i + d)).toNatClampNeg] else [])
  | 0, i => by
    show (if C i = c then (S i).toNatClampNeg :: [] else []) = [] ++ _
    rfl
  | d + 1, i => by
    have ih := tc_ml_a (S := S) (C := C) (c := c) d (i + 1)
    rw [show i + 1 + d = i + (d + 1) from by omega] at ih
    show (if C i = c then (S i).toNatClampNeg :: tc_ml S C c (d + 1) (i + 1) else tc_ml S C c (d + 1) (i + 1)) = (if C i = c then (S i).toNatClampNeg :: tc_ml S C c d (i + 1) else tc_ml S C c d (i + 1)) ++ _
    rw [ih]
    by_cases h : C i = c
    · rw [if_pos h, if_pos h]; rfl
    · rw [if_neg h, if_neg h]
theorem tc_ml_l {S C : Nat → Int32} {c : Int32} : ∀ d i, (tc_ml S C c d i).length ≤ d
  | 0, _ => Nat.le_refl _
  | d + 1, i => by
    have ih := tc_ml_l (S := S) (C := C) (c := c) d (i + 1)
    show (if C i = c then (S i).toNatClampNeg :: tc_ml S C c d (i + 1) else tc_ml S C c d (i + 1)).length ≤ d + 1
    by_cases h : C i = c
    · rw [if_pos h, List.length_cons]; omega
    · rw [if_neg h]; omega
def tc_M (S C : Nat → Int32) (jn : Nat) (c : Nat) : List Nat := tc_ml S C (nI c) jn 0
def tc_GJ (ns nc jn : Nat) (S C H : Nat → Int32) : Prop :=
  (∀ i, i < jn → ∃ s, s < ns ∧ S i = nI s ∧ ∃ c, c < nc ∧ C i = nI c) ∧ (∀ i j, i < jn → j < jn → S i = S j → i = j) ∧
  (∀ s, s < 12 → H s = tc_lk S C (nI s) jn 0) ∧ jn = tc_cn (fun s => decide (¬ H s < 0)) 12
theorem tc_GJ_12 {ns nc jn : Nat} {S C H : Nat → Int32} (h : tc_GJ ns nc jn S C H) : jn ≤ 12 := by
  obtain ⟨-, -, -, e⟩ := h
  have := tc_cn_le (fun s => decide (¬ H s < 0)) 12
  omega
theorem tc_GJ_H {ns nc jn : Nat} {S C H : Nat → Int32} (h : tc_GJ ns nc jn S C H) : tc_GH nc H := by
  obtain ⟨h1, h2, h3, -⟩ := h
  intro s hs
  rw [h3 s hs]
  rcases tc_lk_1 (S := S) (C := C) (s := nI s) jn 0 with z | ⟨j, a, b, c, e⟩
  · exact Or.inl z
  · obtain ⟨s', -, -, c', hc, e'⟩ := h1 j (by omega)
    exact Or.inr ⟨c', hc, e.trans e'⟩
/-- the choice of s is c if and only if s is in c's list -/
theorem tc_GJ_m {ns nc jn : Nat} {S C H : Nat → Int32} (h : tc_GJ ns nc jn S C H) (hn : ns ≤ 12) (hc3 : nc ≤ 3) {c m : Nat} (hc : c < 2 ^ 31) : m ∈ tc_M S C jn c ↔ m < ns ∧ H m = nI c := by
  obtain ⟨h1, h2, h3, -⟩ := h
  unfold tc_M
  rw [tc_ml_m]
  constructor
  · rintro ⟨j, a, b, e, rfl⟩
    obtain ⟨s, hs, e1, -⟩ := h1 j (by omega)
    rw [e1, nI_clamp (by omega)]
    refine ⟨hs, ?_⟩
    rw [h3 s (by omega), tc_lk_2 jn 0 j (fun p q _ x _ y z => h2 p q (by omega) (by omega) z) (by omega) (by omega) e1, e]
  · rintro ⟨hm, e⟩
    rw [h3 m (by omega)] at e
    rcases tc_lk_1 (S := S) (C := C) (s := nI m) jn 0 with z | ⟨j, a, b, e1, e2⟩
    · exact absurd (z.symm.trans e) (fun z => nI_pos hc (by rw [← z]; exact tc_m1))
    · exact ⟨j, a, b, e2.symm.trans e, by rw [e1, nI_clamp (by omega)]⟩
theorem tc_GJ_M {ns nc jn : Nat} {S C H : Nat → Int32} (h : tc_GJ ns nc jn S C H) (hn : ns ≤ 12) (hc3 : nc ≤ 3) : tc_MM (tc_M S C jn) H := by
  intro c hc m hm
  have a := (tc_GJ_m h hn hc3 (by omega)).mp hm
  exact ⟨by omega, a.2⟩
/-- what lies beyond the declared symbols is in no choice -/
theorem tc_GJ_o {ns nc jn : Nat} {S C H : Nat → Int32} (h : tc_GJ ns nc jn S C H) (hn : ns ≤ 12) {s : Nat} (hs : s < 12) (hs2 : ns ≤ s) : H s = -1 := by
  obtain ⟨h1, h2, h3, -⟩ := h
  rw [h3 s hs]
  rcases tc_lk_1 (S := S) (C := C) (s := nI s) jn 0 with z | ⟨j, a, b, c, e⟩
  · exact z
  · obtain ⟨s', hs', e', -⟩ := h1 j (by omega)
    have : s' = s := (nI_eq (by omega) (by omega)).mp (e'.symm.trans c)
    omega
/-- the component's table of members -/
def tc_Me (me mt : Nat → Int32) (M : Nat → List Nat) : Prop := ∀ c, c < 3 → mt c = nI (M c).length ∧ (M c).length ≤ 12 ∧ ∀ l1 m l2, M c = l1 ++ m :: l2 → me (12 * c + l1.length) = nI m
theorem tc_GJ_r {ns nc jn : Nat} {S C H : Nat → Int32} (h : tc_GJ ns nc jn S C H) {s : Nat} (hs : s < 12) (hH : H s < 0) : jn < 12 := by
  obtain ⟨-, -, -, e⟩ := h
  have := tc_cn_room (P := fun s => decide (¬ H s < 0)) (a := s) (N := 12) (decide_eq_false (fun z => z hH)) hs
  omega
/-- a failed join leaves the list as it was -/
theorem tc_GJ_f {ns nc jn : Nat} {S C H : Nat → Int32} {x y : Int32} (h : tc_GJ ns nc jn S C H) : tc_GJ ns nc jn (upd S jn x) (upd C jn y) H := by
  obtain ⟨h1, h2, h3, h4⟩ := h
  have e : ∀ i, i < jn → upd S jn x i = S i ∧ upd C jn y i = C i := fun i hi => ⟨pk_un (by omega), pk_un (by omega)⟩
  refine ⟨fun i hi => ?_, fun i j hi hj => ?_, fun s hs => ?_, h4⟩
  · rw [(e i hi).1, (e i hi).2]; exact h1 i hi
  · rw [(e i hi).1, (e j hj).1]; exact h2 i j hi hj
  · rw [h3 s hs]; exact tc_lk_c jn 0 (fun j _ hj => ⟨((e j (by omega)).1).symm, ((e j (by omega)).2).symm⟩)
theorem tc_M_f {jn : Nat} {S C : Nat → Int32} {x y : Int32} : tc_M (upd S jn x) (upd C jn y) jn = tc_M S C jn := by
  funext c
  exact tc_ml_c jn 0 (fun j _ hj => ⟨pk_un (by omega), pk_un (by omega)⟩)
theorem tc_GJ_j {ns nc jn s c : Nat} {S C H : Nat → Int32} (h : tc_GJ ns nc jn S C H) (hn : ns ≤ 12) (hc3 : nc ≤ 3) (hs : s < ns) (hc : c < nc) (hH : H s < 0) : tc_GJ ns nc (jn + 1) (upd S jn (nI s)) (upd C jn (nI c)) (upd H s (nI c)) := by
  have hf := tc_GJ_f (x := nI s) (y := nI c) h
  obtain ⟨f1, f2, f3, -⟩ := hf
  obtain ⟨h1, h2, h3, h4⟩ := h
  have hno : ∀ i, i < jn → ¬ S i = nI s := by
    intro i hi z
    have e := tc_lk_2 (C := C) jn 0 i (fun p q _ x _ y z => h2 p q (by omega) (by omega) z) (by omega) (by omega) z
    obtain ⟨s', -, -, c', hc', e'⟩ := h1 i hi
    rw [h3 s (by omega), e, e'] at hH
    exact nI_pos (by omega) hH
  have hS : upd S jn (nI s) jn = nI s := pk_us
  have hC : upd C jn (nI c) jn = nI c := pk_us
  refine ⟨fun i hi => ?_, fun i j hi hj e => ?_, fun q hq => ?_, ?_⟩
  · by_cases z : i = jn
    · subst z; exact ⟨s, hs, hS, c, hc, hC⟩
    · exact f1 i (by omega)
  · by_cases z : i = jn
    · by_cases z2 : j = jn
      · omega
      · rw [z, hS, pk_un z2] at e
        exact absurd e.symm (hno j (by omega))
    · by_cases z2 : j = jn
      · rw [z2, hS, pk_un z] at e
        exact absurd e (hno i (by omega))
      · exact f2 i j (by omega) (by omega) e
  · by_cases z : q = s
    · subst z
      rw [pk_us, tc_lk_2 (S := upd S jn (nI q)) (C := upd C jn (nI c)) (s := nI q) (jn + 1) 0 jn (fun p r _ x _ y e => ?_) (by omega) (by omega) hS, hC]
      by_cases z : p = jn
      · by_cases z2 : r = jn
        · omega
        · rw [z, hS, pk_un z2] at e
          exact absurd e.symm (hno r (by omega))
      · by_cases z2 : r = jn
        · rw [z2, hS, pk_un z] at e
          exact absurd e (hno p (by omega))
        · exact f2 p r (by omega) (by omega) e
    · rw [pk_un z, tc_lk_a jn 0 (by rw [Nat.zero_add, hS]; exact fun e => z ((nI_eq (by omega) (by omega)).mp e).symm)]
      exact f3 q hq
  · rw [tc_cn_add (P := fun s => decide (¬ H s < 0)) (a := s) (decide_eq_false (fun z => z hH)) (decide_eq_true (by rw [pk_us]; exact nI_pos (by omega))) 12 (fun k hk hks => by rw [pk_un hks]) (by omega)]
    omega
theorem tc_M_j {jn s c q : Nat} {S C : Nat → Int32} (hc : c < 2 ^ 31) (hs : s < 2 ^ 31) (hq : q < 2 ^ 31) : tc_M (upd S jn (nI s)) (upd C jn (nI c)) (jn + 1) q = if c = q then tc_M S C jn q ++ [s] else tc_M S C jn q := by
  have e : tc_ml (upd S jn (nI s)) (upd C jn (nI c)) (nI q) jn 0 = tc_ml S C (nI q) jn 0 := tc_ml_c jn 0 (fun j _ hj => ⟨pk_un (by omega), pk_un (by omega)⟩)
  unfold tc_M
  rw [tc_ml_a, Nat.zero_add, pk_us, pk_us, nI_clamp hs, e]
  by_cases z : c = q
  · rw [if_pos z, if_pos (by rw [z])]
  · rw [if_neg z, if_neg (fun y => z ((nI_eq hc hq).mp y)), List.append_nil]
theorem tc_Me_j {jn s c : Nat} {S C me mt : Nat → Int32} (h : tc_Me me mt (tc_M S C jn)) (hj : jn < 12) (hc : c < 3) (hs : s < 12) : tc_Me (upd me (12 * c + (tc_M S C jn c).length) (nI s)) (upd mt c (nI ((tc_M S C jn c).length + 1))) (tc_M (upd S jn (nI s)) (upd C jn (nI c)) (jn + 1)) := by
  have hl : (tc_M S C jn c).length ≤ jn := tc_ml_l jn 0
  intro q hq
  obtain ⟨a1, a2, a3⟩ := h q hq
  rw [tc_M_j (by omega) (by omega) (by omega)]
  by_cases z : c = q
  · subst z
    rw [if_pos rfl, pk_us, List.length_append]
    refine ⟨rfl, by show _ + 1 ≤ 12; omega, fun l1 m l2 e => ?_⟩
    rcases List.eq_nil_or_concat l2 with e2 | ⟨l3, x, e2⟩
    · subst e2
      obtain ⟨e3, e4⟩ := List.append_inj' e rfl
      rw [← e3, pk_us]
      exact congrArg nI (List.cons.inj e4).1
    · subst e2
      rw [List.concat_eq_append, ← List.cons_append, ← List.append_assoc] at e
      obtain ⟨e3, e4⟩ := List.append_inj' e rfl
      have hlen : l1.length < (tc_M S C jn c).length := by rw [e3, List.length_append, List.length_cons]; omega
      rw [pk_un (by omega)]
      exact a3 l1 m l3 e3
  · rw [if_neg z, pk_un (fun y => z y.symm)]
    refine ⟨a1, a2, fun l1 m l2 e => ?_⟩
    have hlen : l1.length < 12 := by
      have := congrArg List.length e
      rw [List.length_append, List.length_cons] at this
      omega
    rw [pk_un (by omega)]
    exact a3 l1 m l2 e
end
section
/-! the component: numbers, expressions, rules -/
section
variable {ns nc mr ct jn pn hn fn : Nat} {pl ph dp oc fl fz : Int32}
variable {B H U lo up fa va me mt mo wi K A D R co T sk ne od su sv fi ya yp yb S C L Y ys yr : Nat → Int32}
theorem tc_i8 (r i : Nat) : (8 : Int32) * nI r + nI i = nI (8 * r + i) := by
  rw [← nI_add, ← pk_mul]; rfl
theorem tc_i8' (r i : Nat) : nI r * (8 : Int32) + nI i = nI (8 * r + i) := by
  rw [← nI_add, Nat.mul_comm, ← pk_mul]; rfl
theorem tc_i12 (r i : Nat) : (12 : Int32) * nI r + nI i = nI (12 * r + i) := by
  rw [← nI_add, ← pk_mul]; rfl
theorem tc_mn_i {post : Int32 → Prop} {p q : Int32} (h : post (tc_mn p q)) : (q ≤ p → post q) ∧ (¬ q ≤ p → post p) := by
  unfold tc_mn at h
  by_cases c : q ≤ p
  · rw [if_pos c] at h; exact br_t c h
  · rw [if_neg c] at h; exact br_f c h
theorem tc_mx_i {post : Int32 → Prop} {p q : Int32} (h : post (tc_mx p q)) : (p ≤ q → post q) ∧ (¬ p ≤ q → post p) := by
  unfold tc_mx at h
  by_cases c : p ≤ q
  · rw [if_pos c] at h; exact br_t c h
  · rw [if_neg c] at h; exact br_f c h
theorem xb_mn {post : Int32 → Prop} {z1 z2 z3 z4 p q q' : Int32} (e : q = q') (h : post (tc_mn p q')) : wpX_min post (z1, z2, z3, z4, pl, ph, dp, oc, fl, B, H, U, lo, up, fa, va, me, mt, mo, wi, K, A, D, R, co, T, sk, ne, od, su, sv, fi) p q := by
  subst e; exact tc_mn_i h
theorem xb_mx {post : Int32 → Prop} {z1 z2 z3 z4 p q q' : Int32} (e : q = q') (h : post (tc_mx p q')) : wpX_max post (z1, z2, z3, z4, pl, ph, dp, oc, fl, B, H, U, lo, up, fa, va, me, mt, mo, wi, K, A, D, R, co, T, sk, ne, od, su, sv, fi) p q := by
  subst e; exact tc_mx_i h
theorem xb_pr {post : Int32 → Prop} {s : Nat} {x : Int32} (hs : s < 12) (h : post (tc_pr B s x)) : wpX_promote post ((nI ns), (nI nc), (nI mr), (nI ct), pl, ph, dp, oc, fl, B, H, U, lo, up, fa, va, me, mt, mo, wi, K, A, D, R, co, T, sk, ne, od, su, sv, fi) (nI s) x := by
  have e : B (nI s).toNatClampNeg = B s := tc_cg (nI_clamp (by omega))
  unfold tc_pr at h
  refine And.intro (vp_in_nI hs (by decide)) ?_
  by_cases c : B s = 0
  · rw [if_pos c] at h; exact br_t (e.trans c) h
  · rw [if_neg c] at h
    refine br_f (fun z => c (e.symm.trans z)) ?_
    by_cases c2 : x = 1
    · rw [if_pos c2] at h; exact br_t c2 h
    · rw [if_neg c2] at h; exact br_f c2 h
theorem xb_cb {post : Int32 → Prop} {t p q : Int32} (h : post (tc_cb t p q)) : wpX_combine post ((nI ns), (nI nc), (nI mr), (nI ct), pl, ph, dp, oc, fl, B, H, U, lo, up, fa, va, me, mt, mo, wi, K, A, D, R, co, T, sk, ne, od, su, sv, fi) t p q := by
  unfold tc_cb at h
  by_cases c1 : t = 31
  · rw [if_pos c1] at h; exact br_t c1 (xb_mn rfl h)
  · rw [if_neg c1] at h
    by_cases c2 : t = 32
    · rw [if_pos c2] at h; exact br_f c1 (br_t c2 (xb_mx rfl h))
    · rw [if_neg c2] at h
      by_cases c3 : t = 33
      · rw [if_pos c3] at h
        by_cases c4 : p = q
        · rw [if_pos c4] at h; exact br_f c1 (br_f c2 (br_t c3 (br_t c4 (br_f (by decide) h))))
        · rw [if_neg c4] at h; exact br_f c1 (br_f c2 (br_t c3 (br_f c4 (br_t rfl h))))
      · rw [if_neg c3] at h
        by_cases c4 : q ≤ p
        · rw [if_pos c4] at h; exact br_f c1 (br_f c2 (br_f c3 (br_t c4 (br_t rfl h))))
        · rw [if_neg c4] at h; exact br_f c1 (br_f c2 (br_f c3 (br_f c4 (br_f (by decide) h))))
theorem xe_35 {post : SX → Prop} {l : List Int32} {z : Int32} (hl : tc_Rs sk l) (h8 : l.length < 8) (hp : ∀ sk, tc_Rs sk (z :: l) → post ((nI ns), (nI nc), (nI mr), (nI ct), pl, ph, (nI (l.length + 1)), oc, fl, B, H, U, lo, up, fa, va, me, mt, mo, wi, K, A, D, R, co, T, sk, ne, od, su, sv, fi)) : wX_step_35 post z (nI l.length) (nI ns) (nI nc) (nI mr) (nI ct) pl ph (nI l.length) oc fl B H U lo up fa va me mt mo wi K A D R co T sk ne od su sv fi := by
  have e : (nI l.length).toNatClampNeg = l.length := nI_clamp (by omega)
  refine And.intro (vp_in_nI h8 (by decide)) (nm_r (e' := upd sk l.length z) (by rw [e]) (nm_r (nI_1 _) (hp _ ⟨pk_us, tc_Rs_u hl (Nat.le_refl _)⟩)))
theorem xe_st {post : SX → Prop} {l : List Int32} {t : Int32} (hn : ns ≤ 12) (hl : tc_Rs sk l) (h8 : l.length < 8) (k : tc_tk ns l.length t) (hp : ∀ sk, tc_Rs sk (tc_sp va l t) → post ((nI ns), (nI nc), (nI mr), (nI ct), pl, ph, (nI (tc_sp va l t).length), oc, fl, B, H, U, lo, up, fa, va, me, mt, mo, wi, K, A, D, R, co, T, sk, ne, od, su, sv, fi)) : wpX_step post ((nI ns), (nI nc), (nI mr), (nI ct), pl, ph, (nI l.length), oc, fl, B, H, U, lo, up, fa, va, me, mt, mo, wi, K, A, D, R, co, T, sk, ne, od, su, sv, fi) t := by
  rcases k with ⟨j, hj, rfl⟩ | ⟨j, h1, h2, rfl⟩ | ⟨rfl, h1⟩ | ⟨j, h1, h2, rfl, h3⟩
  · rw [tc_sp_a (by omega)] at hp
    have e : va (nI j).toNatClampNeg = va j := tc_cg (nI_clamp (by omega))
    refine br_f (tc_22 (by omega)) (br_f (nI_ge hj (by omega)) ⟨vp_in_nI (by omega) (by decide), ?_⟩)
    rw [e]
    exact xe_35 hl h8 hp
  · rw [tc_sp_b h1 h2] at hp
    exact br_f (tc_22 (by omega)) (br_t (nI_le (by omega) (by omega)) (xe_35 hl h8 hp))
  · rw [tc_sp_c] at hp
    match l, hl, h8, h1, hp with
    | x :: l, hl, h8, h1, hp =>
      have h8' : l.length + 1 < 8 := h8
      have e0 : nI (x :: l).length - 1 = nI l.length := nI_pred _
      have e : (nI (x :: l).length - 1).toNatClampNeg = l.length := by rw [e0]; exact nI_clamp (by omega)
      refine br_t (by decide) (br_t rfl ⟨pk_in l.length 8 (by omega) e0, pk_in l.length 8 (by omega) e0, ?_⟩)
      rw [e, hl.1]
      exact nm_e (hp _ ⟨pk_us, tc_Rs_u hl.2 (Nat.le_refl _)⟩)
  · rw [tc_sp_d h1 h2] at hp
    match l, hl, h8, h3, hp with
    | [x], hl, h8, h3, hp => exact absurd (show 2 ≤ 1 from h3) (by decide)
    | y :: x :: l, hl, h8, h3, hp =>
      have h8' : l.length + 1 + 1 < 8 := h8
      have e0 : nI (y :: x :: l).length - 1 = nI (l.length + 1) := nI_pred _
      have e1 : nI (l.length + 1) - 1 = nI l.length := nI_pred _
      have c1 : (nI (l.length + 1)).toNatClampNeg = l.length + 1 := nI_clamp (by omega)
      have c0 : (nI l.length).toNatClampNeg = l.length := nI_clamp (by omega)
      refine br_t (tc_22' (by omega) (by omega)) (br_f (tc_n30 (by omega) (by omega)) (nm_r e0 ?_))
      rw [e1, c1, c0]
      have a1 : sk (l.length + 1) = y := hl.1
      have a2 : sk l.length = x := hl.2.1
      rw [a1, a2]
      refine ⟨vp_in_nI (by omega) (by decide), vp_in_nI (by omega) (by decide), xb_cb ⟨vp_in_nI (by omega) (by decide), nm_e (hp _ ⟨pk_us, tc_Rs_u hl.2.2 (Nat.le_refl _)⟩)⟩⟩
theorem xe_lp {post : Int32 → SX → Prop} {b n : Nat} (hn : ns ≤ 12) (hb : b + n ≤ 200) (h8 : n ≤ 8) (hg : tc_gs ns T b n) (h1 : 1 ≤ n) (hp : ∀ dp sk, post (tc_ev va T b n) ((nI ns), (nI nc), (nI mr), (nI ct), pl, ph, dp, oc, fl, B, H, U, lo, up, fa, va, me, mt, mo, wi, K, A, D, R, co, T, sk, ne, od, su, sv, fi)) : ∀ d i f sk, i + d = n → d < f → tc_Rs sk (tc_rn va T b i) → wX_evaluateTokens_13 post (nI b) (nI n) f (nI i) (nI ns) (nI nc) (nI mr) (nI ct) pl ph (nI (tc_rn va T b i).length) oc fl B H U lo up fa va me mt mo wi K A D R co T sk ne od su sv fi := by
  intro d
  induction d with
  | zero =>
    intro i f sk hi hf hR
    obtain ⟨f, rfl⟩ : ∃ g, f = g + 1 := ⟨f - 1, by omega⟩
    obtain rfl : i = n := by omega
    have hl := tc_rn_l (v := va) hn i hg
    have hh := (tc_hg_p hn i hg).2 (by omega)
    have e0 : sk 0 = tc_ev va T b i := tc_Rs_bo (by omega) hR
    have h := hp (nI (tc_rn va T b i).length) sk
    rw [← e0] at h
    exact br_t (nI_le (by omega) (by omega)) h
  | succ d ih =>
    intro i f sk hi hf hR
    obtain ⟨f, rfl⟩ : ∃ g, f = g + 1 := ⟨f - 1, by omega⟩
    have hl := tc_rn_l (v := va) hn i (fun q hq => hg q (by omega))
    have hh := (tc_hg_p hn i (fun q hq => hg q (by omega))).1
    have e : T (nI b + nI i).toNatClampNeg = T (b + i) := tc_cg (pk_cl (b + i) (nI_add b i))
    refine br_f (nI_ge (by omega) (by omega)) ⟨pk_in (b + i) 200 (by omega) (nI_add b i), ?_⟩
    rw [e]
    refine xe_st hn hR (by omega) (by rw [hl]; exact hg i (by omega)) (fun sk' hR' => ?_)
    exact nm_r (nI_1 i) (ih (i + 1) f sk' (by omega) (by omega) hR')
theorem xe_ev {post : Int32 → SX → Prop} {b n : Nat} {p q : Int32} (hn : ns ≤ 12) (hb : b + n ≤ 200) (h8 : n ≤ 8) (hg : tc_gs ns T b n) (e1 : p = nI b) (e2 : q = nI n) (hp : ∀ dp sk, post (tc_ev va T b n) ((nI ns), (nI nc), (nI mr), (nI ct), pl, ph, dp, oc, fl, B, H, U, lo, up, fa, va, me, mt, mo, wi, K, A, D, R, co, T, sk, ne, od, su, sv, fi)) : wpX_evaluateTokens post ((nI ns), (nI nc), (nI mr), (nI ct), pl, ph, dp, oc, fl, B, H, U, lo, up, fa, va, me, mt, mo, wi, K, A, D, R, co, T, sk, ne, od, su, sv, fi) p q := by
  subst e1 e2
  by_cases h0 : n = 0
  · subst h0; exact br_t rfl (hp dp sk)
  · exact br_f (nI_ne0 (by omega) (by omega)) ⟨n + 1, xe_lp hn hb h8 hg (by omega) hp n 0 (n + 1) sk (by omega) (by omega) True.intro⟩
end
end
section
/-! the component settles a knot -/
section
variable {ns nc mr ct jn pn hn fn : Nat} {pl ph dp oc fl fz : Int32}
variable {B H U lo up fa va me mt mo wi K A D R co T sk ne od su sv fi ya yp yb S C L Y ys yr : Nat → Int32}
theorem xs_ls {post : Int32 → Prop} {kd a : Int32} (hc : ct ≤ 24) : ∀ d r f x, r + d = ct → d < f → post (tc_ls K A co kd a d r x) → wX_leastCondition_5 post kd a (nI ns) (nI nc) (nI mr) (nI ct) pl ph dp oc fl B H U lo up fa va me mt mo wi K A D R co T sk ne od su sv fi f x (nI r) := by
  intro d
  induction d with
  | zero =>
    intro r f x hr hf hp
    obtain ⟨f, rfl⟩ : ∃ g, f = g + 1 := ⟨f - 1, by omega⟩
    exact br_t (nI_le (by omega) (by omega)) hp
  | succ d ih =>
    intro r f x hr hf hp
    obtain ⟨f, rfl⟩ : ∃ g, f = g + 1 := ⟨f - 1, by omega⟩
    have e : (nI r).toNatClampNeg = r := nI_clamp (by omega)
    have hi : vp_in (nI r) 24 := vp_in_nI (by omega) (by decide)
    have hp : post (tc_ls K A co kd a d (r + 1) (if K r = kd then (if A r = a then tc_mn x (co r) else x) else x)) := hp
    refine br_f (nI_ge (by omega) (by omega)) ⟨hi, ?_⟩
    by_cases h1 : K r = kd
    · rw [if_pos h1] at hp
      refine br_t ((tc_cg e).trans h1) ⟨hi, ?_⟩
      by_cases h2 : A r = a
      · rw [if_pos h2] at hp
        exact br_t ((tc_cg e).trans h2) ⟨hi, xb_mn (tc_cg e) (nm_r (nI_1 r) (ih (r + 1) f _ (by omega) (by omega) hp))⟩
      · rw [if_neg h2] at hp
        exact br_f (fun z => h2 ((tc_cg e).symm.trans z)) (nm_r (nI_1 r) (ih (r + 1) f _ (by omega) (by omega) hp))
    · rw [if_neg h1] at hp
      exact br_f (fun z => h1 ((tc_cg e).symm.trans z)) (nm_r (nI_1 r) (ih (r + 1) f _ (by omega) (by omega) hp))
theorem xs_least {post : Int32 → Prop} {kd a : Int32} (hc : ct ≤ 24) (hp : post (tc_ls K A co kd a ct 0 2)) : wpX_leastCondition post ((nI ns), (nI nc), (nI mr), (nI ct), pl, ph, dp, oc, fl, B, H, U, lo, up, fa, va, me, mt, mo, wi, K, A, D, R, co, T, sk, ne, od, su, sv, fi) kd a := Exists.intro (ct + 1) (xs_ls hc ct 0 (ct + 1) 2 (by omega) (by omega) hp)
theorem xs_gr {post : Int32 → Prop} {kd a : Int32} (hc : ct ≤ 24) (hA : ∀ r, r < ct → K r = kd → ∃ t, t < 12 ∧ A r = nI t) : ∀ d r f x, r + d = ct → d < f → post (tc_gr K D A co va kd a d r x) → wX_strongestPull_5 post kd a (nI ns) (nI nc) (nI mr) (nI ct) pl ph dp oc fl B H U lo up fa va me mt mo wi K A D R co T sk ne od su sv fi f x (nI r) := by
  intro d
  induction d with
  | zero =>
    intro r f x hr hf hp
    obtain ⟨f, rfl⟩ : ∃ g, f = g + 1 := ⟨f - 1, by omega⟩
    exact br_t (nI_le (by omega) (by omega)) hp
  | succ d ih =>
    intro r f x hr hf hp
    obtain ⟨f, rfl⟩ : ∃ g, f = g + 1 := ⟨f - 1, by omega⟩
    have e : (nI r).toNatClampNeg = r := nI_clamp (by omega)
    have hi : vp_in (nI r) 24 := vp_in_nI (by omega) (by decide)
    have hp : post (tc_gr K D A co va kd a d (r + 1) (if K r = kd then (if D r = a then tc_mx x (tc_mn (va (A r).toNatClampNeg) (co r)) else x) else x)) := hp
    refine br_f (nI_ge (by omega) (by omega)) ⟨hi, ?_⟩
    by_cases h1 : K r = kd
    · rw [if_pos h1] at hp
      refine br_t ((tc_cg e).trans h1) ⟨hi, ?_⟩
      by_cases h2 : D r = a
      · rw [if_pos h2] at hp
        obtain ⟨t, ht, eA⟩ := hA r (by omega) h1
        refine br_t ((tc_cg e).trans h2) ⟨hi, ?_⟩
        rw [e]
        exact ⟨pk_in t 12 ht eA, hi, xb_mn rfl (xb_mx rfl (nm_r (nI_1 r) (ih (r + 1) f _ (by omega) (by omega) hp)))⟩
      · rw [if_neg h2] at hp
        exact br_f (fun z => h2 ((tc_cg e).symm.trans z)) (nm_r (nI_1 r) (ih (r + 1) f _ (by omega) (by omega) hp))
    · rw [if_neg h1] at hp
      exact br_f (fun z => h1 ((tc_cg e).symm.trans z)) (nm_r (nI_1 r) (ih (r + 1) f _ (by omega) (by omega) hp))
theorem xs_pull {post : Int32 → Prop} {kd a : Int32} (hc : ct ≤ 24) (hA : ∀ r, r < ct → K r = kd → ∃ t, t < 12 ∧ A r = nI t) (hp : post (tc_gr K D A co va kd a ct 0 0)) : wpX_strongestPull post ((nI ns), (nI nc), (nI mr), (nI ct), pl, ph, dp, oc, fl, B, H, U, lo, up, fa, va, me, mt, mo, wi, K, A, D, R, co, T, sk, ne, od, su, sv, fi) kd a := Exists.intro (ct + 1) (xs_gr hc hA ct 0 (ct + 1) 0 (by omega) (by omega) hp)
theorem xs_df {post : Int32 → Prop} {a : Int32} (hc : ct ≤ 24) : ∀ d r f, r + d = ct → d < f → post (tc_df K A D co a d r) → wX_defaultOf_2 post a (nI ns) (nI nc) (nI mr) (nI ct) pl ph dp oc fl B H U lo up fa va me mt mo wi K A D R co T sk ne od su sv fi f (nI r) := by
  intro d
  induction d with
  | zero =>
    intro r f hr hf hp
    obtain ⟨f, rfl⟩ : ∃ g, f = g + 1 := ⟨f - 1, by omega⟩
    exact br_t (nI_le (by omega) (by omega)) hp
  | succ d ih =>
    intro r f hr hf hp
    obtain ⟨f, rfl⟩ : ∃ g, f = g + 1 := ⟨f - 1, by omega⟩
    have e : (nI r).toNatClampNeg = r := nI_clamp (by omega)
    have hi : vp_in (nI r) 24 := vp_in_nI (by omega) (by decide)
    have hp : post (if K r = 1 then (if A r = a then (if co r = 0 then tc_df K A D co a d (r + 1) else tc_mn (D r) (co r)) else tc_df K A D co a d (r + 1)) else tc_df K A D co a d (r + 1)) := hp
    refine br_f (nI_ge (by omega) (by omega)) ⟨hi, ?_⟩
    by_cases h1 : K r = 1
    · rw [if_pos h1] at hp
      refine br_t ((tc_cg e).trans h1) ⟨hi, ?_⟩
      by_cases h2 : A r = a
      · rw [if_pos h2] at hp
        refine br_t ((tc_cg e).trans h2) ⟨hi, ?_⟩
        by_cases h3 : co r = 0
        · rw [if_pos h3] at hp
          exact br_t ((tc_cg e).trans h3) (nm_r (nI_1 r) (ih (r + 1) f (by omega) (by omega) hp))
        · rw [if_neg h3] at hp
          refine br_f (fun z => h3 ((tc_cg e).symm.trans z)) ⟨hi, hi, ?_⟩
          rw [e]
          exact xb_mn rfl hp
      · rw [if_neg h2] at hp
        exact br_f (fun z => h2 ((tc_cg e).symm.trans z)) (nm_r (nI_1 r) (ih (r + 1) f (by omega) (by omega) hp))
    · rw [if_neg h1] at hp
      exact br_f (fun z => h1 ((tc_cg e).symm.trans z)) (nm_r (nI_1 r) (ih (r + 1) f (by omega) (by omega) hp))
theorem xs_default {post : Int32 → Prop} {a : Int32} (hc : ct ≤ 24) (hp : post (tc_df K A D co a ct 0)) : wpX_defaultOf post ((nI ns), (nI nc), (nI mr), (nI ct), pl, ph, dp, oc, fl, B, H, U, lo, up, fa, va, me, mt, mo, wi, K, A, D, R, co, T, sk, ne, od, su, sv, fi) a := Exists.intro (ct + 1) (xs_df hc ct 0 (ct + 1) (by omega) (by omega) hp)
theorem xs_upper {post : Int32 → Prop} {s : Nat} (hc : ct ≤ 24) (hnc : nc ≤ 3) (hH : tc_GH nc H) (hs : s < 12) (hp : post (tc_Up ct K A B co (tc_md H mo s) s)) : wpX_upperOf post ((nI ns), (nI nc), (nI mr), (nI ct), pl, ph, dp, oc, fl, B, H, U, lo, up, fa, va, me, mt, mo, wi, K, A, D, R, co, T, sk, ne, od, su, sv, fi) (nI s) := by
  unfold tc_Up at hp
  have e : (nI s).toNatClampNeg = s := nI_clamp (by omega)
  have hi : vp_in (nI s) 12 := vp_in_nI hs (by decide)
  refine xs_least (kd := 0) hc ?_
  generalize tc_ls K A co 0 (nI s) ct 0 2 = dep at hp
  refine ⟨hi, nm_r (tc_cg e) ?_⟩
  rcases hH s hs with z | ⟨c, hcc, z⟩
  · have hm : tc_md H mo s = 2 := if_pos (by rw [z]; exact tc_m1)
    rw [hm] at hp
    have hp : post (tc_pr B s dep) := hp
    rw [z]
    exact br_t tc_m1 (xb_pr hs hp)
  · have hm : tc_md H mo s = mo c := by
      unfold tc_md
      rw [z, if_neg (nI_pos (by omega)), nI_clamp (by omega)]
    rw [hm] at hp
    have ec : mo (nI c).toNatClampNeg = mo c := tc_cg (nI_clamp (by omega))
    have hj : vp_in (nI c) 3 := vp_in_nI (by omega) (by decide)
    rw [z]
    refine br_f (nI_pos (by omega)) ⟨hj, ?_⟩
    unfold tc_u1 at hp
    by_cases h2 : mo c = 2
    · rw [if_pos h2] at hp; exact br_t (ec.trans h2) (xb_pr hs hp)
    · rw [if_neg h2] at hp
      refine br_f (fun y => h2 (ec.symm.trans y)) ⟨hj, ?_⟩
      by_cases h0 : mo c = 0
      · rw [if_pos h0] at hp; exact br_t (ec.trans h0) hp
      · rw [if_neg h0] at hp
        refine br_f (fun y => h0 (ec.symm.trans y)) ⟨hi, ?_⟩
        by_cases hb : B s = 0
        · rw [if_pos hb] at hp; exact br_t ((tc_cg e).trans hb) (xb_mn rfl hp)
        · rw [if_neg hb] at hp; exact br_f (fun y => hb ((tc_cg e).symm.trans y)) hp
theorem xs_A {kd : Int32} (hn : ns ≤ 12) (hR : tc_GR ns nc ct K A D) (h : kd = 2 ∨ kd = 3) : ∀ r, r < ct → K r = kd → ∃ t, t < 12 ∧ A r = nI t := by
  intro r hr hk
  rcases hR r hr with ⟨h4, -⟩ | ⟨h0, -⟩ | ⟨-, ⟨a, ha, e⟩, -⟩
  · rcases h with h | h <;> exact absurd (h4.symm.trans (hk.trans h)) (by decide)
  · rcases h with h | h <;> rcases h0 with h0 | h0 <;> exact absurd (h0.symm.trans (hk.trans h)) (by decide)
  · exact ⟨a, by omega, e⟩
theorem xs_bounds {post : SX → Prop} {s : Nat} (hc : ct ≤ 24) (hn : ns ≤ 12) (hnc : nc ≤ 3) (hH : tc_GH nc H) (hR : tc_GR ns nc ct K A D) (hs : s < 12)
    (hp : post ((nI ns), (nI nc), (nI mr), (nI ct), pl, ph, dp, oc, fl, B, H, U, upd lo s (tc_Lo ct K D A B co va s), upd up s (tc_Up ct K A B co (tc_md H mo s) s), upd fa s (tc_Fa ct K A D B co va (tc_Up ct K A B co (tc_md H mo s) s) s), va, me, mt, mo, wi, K, A, D, R, co, T, sk, ne, od, su, sv, fi)) : wpX_settleBounds post ((nI ns), (nI nc), (nI mr), (nI ct), pl, ph, dp, oc, fl, B, H, U, lo, up, fa, va, me, mt, mo, wi, K, A, D, R, co, T, sk, ne, od, su, sv, fi) (nI s) := by
  have e : (nI s).toNatClampNeg = s := nI_clamp (by omega)
  have hi : vp_in (nI s) 12 := vp_in_nI hs (by decide)
  refine xs_pull (kd := 2) hc (xs_A hn hR (Or.inl rfl)) (xb_pr hs ⟨hi, nm_r (e' := upd lo s (tc_Lo ct K D A B co va s)) (by rw [e]; rfl) ?_⟩)
  refine xs_upper hc hnc hH hs ⟨hi, nm_r (e' := upd up s (tc_Up ct K A B co (tc_md H mo s) s)) (by rw [e]) ?_⟩
  refine xs_default hc (xs_pull (kd := 3) hc (xs_A hn hR (Or.inr rfl)) (xb_mx rfl ⟨hi, ?_⟩))
  rw [e, pk_us]
  refine xb_mn rfl (xb_pr hs ⟨hi, nm_e ?_⟩)
  exact hp
theorem xs_meets {post : Int32 → Prop} {s ln : Nat} (hs : s < 12) (hl1 : 1 ≤ ln) (hl : ln ≤ 4) (ht : tc_mt lo fa U ln s = true → post 1) (hf : tc_mt lo fa U ln s = false → post 0) : wpX_meets post ((nI ns), (nI nc), (nI mr), (nI ct), pl, ph, dp, oc, fl, B, H, U, lo, up, fa, va, me, mt, mo, wi, K, A, D, R, co, T, sk, ne, od, su, sv, fi) (nI s) (nI ln) := by
  have e : (nI s).toNatClampNeg = s := nI_clamp (by omega)
  have hi : vp_in (nI s) 12 := vp_in_nI hs (by decide)
  have q : ∀ j, j < 5 → j ≠ ln → ¬ nI ln = nI j := fun j hj h z => h ((nI_eq (by omega) (by omega)).mp z).symm
  unfold tc_mt at ht hf
  by_cases h1 : ln = 1
  · subst h1
    rw [if_pos rfl] at ht hf
    refine br_t rfl ⟨hi, ?_⟩
    by_cases z : lo s = 2
    · exact br_t ((tc_cg e).trans z) (ht (decide_eq_true z))
    · exact br_f (fun y => z ((tc_cg e).symm.trans y)) (hf (decide_eq_false z))
  · rw [if_neg h1] at ht hf
    refine br_f (q 1 (by omega) (fun z => h1 z.symm)) ?_
    by_cases h2 : ln = 2
    · subst h2
      rw [if_pos rfl] at ht hf
      refine br_t rfl ⟨hi, ?_⟩
      by_cases z : U s = 2
      · exact br_t ((tc_cg e).trans z) (ht (decide_eq_true z))
      · exact br_f (fun y => z ((tc_cg e).symm.trans y)) (hf (decide_eq_false z))
    · rw [if_neg h2] at ht hf
      refine br_f (q 2 (by omega) (fun z => h2 z.symm)) ⟨hi, ?_⟩
      by_cases z : U s = 0
      · exact br_t ((tc_cg e).trans z) (hf (by rw [decide_eq_true z]; rfl))
      · refine br_f (fun y => z ((tc_cg e).symm.trans y)) ?_
        rw [decide_eq_false z] at ht hf
        by_cases h4 : ln = 4
        · subst h4
          exact br_t rfl (ht rfl)
        · refine br_f (q 4 (by omega) (fun z => h4 z.symm)) ⟨hi, ?_⟩
          rw [decide_eq_false h4] at ht hf
          by_cases z2 : fa s = 2
          · exact br_t ((tc_cg e).trans z2) (ht (by rw [decide_eq_true z2]; rfl))
          · exact br_f (fun y => z2 ((tc_cg e).symm.trans y)) (hf (by rw [decide_eq_false z2]; rfl))
theorem xs_pw2 {post J : Int32 → Prop} {c ln : Nat} {M : Nat → List Nat} (hc : c < 3) (hM : tc_MM M H) (hMe : tc_Me me mt M) (hl1 : 1 ≤ ln) (hl4 : ln ≤ 4) : ∀ l2 l1 f, M c = l1 ++ l2 → l2.length < f →
    (∀ s, l2.find? (tc_ft lo up fa U ln) = some s → post (nI s)) → (l2.find? (tc_ft lo up fa U ln) = none → J (nI (ln + 1))) → wX_pickWinner_22 post J (nI c) (nI ln) (nI ns) (nI nc) (nI mr) (nI ct) pl ph dp oc fl B H U lo up fa va me mt mo wi K A D R co T sk ne od su sv fi f (nI l1.length) := by
  obtain ⟨m1, m2, m3⟩ := hMe c hc
  have ec : (nI c).toNatClampNeg = c := nI_clamp (by omega)
  have hj : vp_in (nI c) 3 := vp_in_nI hc (by decide)
  intro l2
  induction l2 with
  | nil =>
    intro l1 f hl hf h1 h2
    obtain ⟨f, rfl⟩ : ∃ g, f = g + 1 := ⟨f - 1, by omega⟩
    have : l1.length = (M c).length := by rw [hl, List.append_nil]
    refine ⟨hj, br_t ?_ (nm_r (nI_1 ln) (h2 rfl))⟩
    rw [ec, m1, this]
    exact nI_le (Nat.le_refl _) (by omega)
  | cons m l2 ih =>
    intro l1 f hl hf h1 h2
    obtain ⟨f, rfl⟩ : ∃ g, f = g + 1 := ⟨f - 1, by omega⟩
    have hlen : (M c).length = l1.length + (l2.length + 1) := by rw [hl, List.length_append, List.length_cons]
    have hf' : l2.length + 1 < f + 1 := hf
    obtain ⟨hm, -⟩ := hM c hc m (by rw [hl]; exact List.mem_append_right _ List.mem_cons_self)
    have em : me ((12 : Int32) * nI c + nI l1.length).toNatClampNeg = nI m := (tc_cg (pk_cl (12 * c + l1.length) (tc_i12 c l1.length))).trans (m3 l1 m l2 hl)
    have es : (nI m).toNatClampNeg = m := nI_clamp (by omega)
    have hnext : (∀ s, l2.find? (tc_ft lo up fa U ln) = some s → post (nI s)) → (l2.find? (tc_ft lo up fa U ln) = none → J (nI (ln + 1))) → wX_pickWinner_22 post J (nI c) (nI ln) (nI ns) (nI nc) (nI mr) (nI ct) pl ph dp oc fl B H U lo up fa va me mt mo wi K A D R co T sk ne od su sv fi f (nI (l1.length + 1)) := by
      intro a b
      have := ih (l1 ++ [m]) f (by rw [hl, List.append_assoc]; rfl) (by omega) a b
      rw [List.length_append] at this
      exact this
    refine ⟨hj, br_f ?_ ⟨pk_in (12 * c + l1.length) 36 (by omega) (tc_i12 c l1.length), nm_r em ⟨vp_in_nI hm (by decide), ?_⟩⟩⟩
    · rw [ec, m1]; exact nI_ge (by omega) (by omega)
    rw [List.find?_cons] at h1 h2
    by_cases hu : up m = 2
    · refine br_t ((tc_cg es).trans hu) (xs_meets hm hl1 hl4 ?_ ?_)
      · intro ht
        have hft : tc_ft lo up fa U ln m = true := by unfold tc_ft; rw [decide_eq_true hu, ht]; rfl
        rw [hft] at h1 h2
        exact br_f (by decide) (h1 m rfl)
      · intro ht
        have hft : tc_ft lo up fa U ln m = false := by unfold tc_ft; rw [decide_eq_true hu, ht]; rfl
        rw [hft] at h1 h2
        exact br_t rfl (nm_r (nI_1 _) (hnext h1 h2))
    · have hft : tc_ft lo up fa U ln m = false := by unfold tc_ft; rw [decide_eq_false hu]; rfl
      rw [hft] at h1 h2
      exact br_f (fun y => hu ((tc_cg es).symm.trans y)) (nm_r (nI_1 _) (hnext h1 h2))
theorem xs_pw1 {post : Int32 → Prop} {c : Nat} {M : Nat → List Nat} (hc : c < 3) (hM : tc_MM M H) (hMe : tc_Me me mt M) : ∀ d ln f, ln + d = 5 → 1 ≤ ln → d < f → post (tc_wn (tc_ft lo up fa U) (M c) d ln) → wX_pickWinner_15 post (nI c) (nI ns) (nI nc) (nI mr) (nI ct) pl ph dp oc fl B H U lo up fa va me mt mo wi K A D R co T sk ne od su sv fi f (nI ln) := by
  intro d
  induction d with
  | zero =>
    intro ln f h5 h1 hf hp
    obtain ⟨f, rfl⟩ : ∃ g, f = g + 1 := ⟨f - 1, by omega⟩
    obtain rfl : ln = 5 := by omega
    exact br_t (by decide) hp
  | succ d ih =>
    intro ln f h5 h1 hf hp
    obtain ⟨f, rfl⟩ : ∃ g, f = g + 1 := ⟨f - 1, by omega⟩
    have hp : post (tc_w1 ((M c).find? (tc_ft lo up fa U ln)) (tc_wn (tc_ft lo up fa U) (M c) d (ln + 1))) := hp
    refine br_f (nI_nlt (a := 4) (by omega) (by decide)) ⟨(M c).length + 1, xs_pw2 hc hM hMe h1 (by omega) (M c) [] _ rfl (by omega) (fun s es => ?_) (fun en => ?_)⟩
    · rw [es] at hp; exact hp
    · rw [en] at hp; exact ih (ln + 1) f (by omega) (by omega) (by omega) hp
theorem xs_pick {post : Int32 → Prop} {c : Nat} {M : Nat → List Nat} (hc : c < 3) (hM : tc_MM M H) (hMe : tc_Me me mt M) (hp : post (tc_Wi U lo up fa (M c) (mo c))) : wpX_pickWinner post ((nI ns), (nI nc), (nI mr), (nI ct), pl, ph, dp, oc, fl, B, H, U, lo, up, fa, va, me, mt, mo, wi, K, A, D, R, co, T, sk, ne, od, su, sv, fi) (nI c) := by
  have ec : mo (nI c).toNatClampNeg = mo c := tc_cg (nI_clamp (by omega))
  unfold tc_Wi at hp
  refine And.intro (vp_in_nI hc (by decide)) ?_
  by_cases h : mo c = 2
  · rw [if_pos h] at hp
    exact br_t (ec.trans h) ⟨5, xs_pw1 hc hM hMe 4 1 5 (by omega) (by omega) (by omega) hp⟩
  · rw [if_neg h] at hp
    exact br_f (fun z => h (ec.symm.trans z)) hp
theorem xs_v48 {post : SX → Prop} {s : Nat} (hs : s < 12) (hp : post ((nI ns), (nI nc), (nI mr), (nI ct), pl, ph, dp, oc, fl, B, H, U, lo, up, fa, upd va s (tc_mx (lo s) (tc_ws U (up s) (fa s) s)), me, mt, mo, wi, K, A, D, R, co, T, sk, ne, od, su, sv, fi)) : wX_settleValue_48 post (nI s) (nI ns) (nI nc) (nI mr) (nI ct) pl ph dp oc fl B H U lo up fa va me mt mo wi K A D R co T sk ne od su sv fi := by
  have e : (nI s).toNatClampNeg = s := nI_clamp (by omega)
  have hi : vp_in (nI s) 12 := vp_in_nI hs (by decide)
  unfold tc_ws at hp
  have h83 : ∀ z : Int32, post ((nI ns), (nI nc), (nI mr), (nI ct), pl, ph, dp, oc, fl, B, H, U, lo, up, fa, upd va s (tc_mx (lo s) z), me, mt, mo, wi, K, A, D, R, co, T, sk, ne, od, su, sv, fi) → wX_settleValue_83 post (nI s) z (nI ns) (nI nc) (nI mr) (nI ct) pl ph dp oc fl B H U lo up fa va me mt mo wi K A D R co T sk ne od su sv fi := by
    intro z hz
    unfold wX_settleValue_83
    rw [e]
    exact ⟨hi, xb_mx rfl ⟨hi, nm_e hz⟩⟩
  unfold wX_settleValue_48
  rw [e]
  refine ⟨hi, ?_⟩
  by_cases h : U s = 3
  · rw [if_pos h] at hp
    exact br_t h ⟨hi, h83 _ hp⟩
  · rw [if_neg h] at hp
    exact br_f h ⟨hi, hi, xb_mn rfl (h83 _ hp)⟩
theorem xs_value {post : SX → Prop} {s : Nat} (hnc : nc ≤ 3) (hH : tc_GH nc H) (hs : s < 12) (hp : post ((nI ns), (nI nc), (nI mr), (nI ct), pl, ph, dp, oc, fl, B, H, U, lo, up, fa, upd va s (tc_Va U H (lo s) (up s) (fa s) (tc_md H mo s) (wi (H s).toNatClampNeg) s), me, mt, mo, wi, K, A, D, R, co, T, sk, ne, od, su, sv, fi)) : wpX_settleValue post ((nI ns), (nI nc), (nI mr), (nI ct), pl, ph, dp, oc, fl, B, H, U, lo, up, fa, va, me, mt, mo, wi, K, A, D, R, co, T, sk, ne, od, su, sv, fi) (nI s) := by
  have e : (nI s).toNatClampNeg = s := nI_clamp (by omega)
  have hi : vp_in (nI s) 12 := vp_in_nI hs (by decide)
  refine And.intro hi (nm_r (tc_cg e) ?_)
  unfold tc_Va tc_md at hp
  rcases hH s hs with z | ⟨c, hcc, z⟩
  · have z' : H s < 0 := by rw [z]; exact tc_m1
    rw [if_pos z'] at hp
    exact br_t z' (xs_v48 hs hp)
  · have z' : ¬ H s < 0 := by rw [z]; exact nI_pos (by omega)
    have ec : (H s).toNatClampNeg = c := by rw [z]; exact nI_clamp (by omega)
    have hj : vp_in (H s) 3 := pk_in c 3 (by omega) z
    rw [if_neg z', if_neg z', ec] at hp
    refine br_f z' ⟨hj, ?_⟩
    by_cases h2 : mo c = 2
    · rw [if_pos h2] at hp
      refine br_t ((tc_cg ec).trans h2) ⟨hj, ?_⟩
      by_cases hw : wi c = nI s
      · rw [if_pos hw] at hp
        refine br_t ((tc_cg ec).trans hw) ⟨hi, ?_⟩
        rw [e]
        exact nm_e hp
      · rw [if_neg hw] at hp
        refine br_f (fun y => hw ((tc_cg ec).symm.trans y)) ⟨hi, hi, ?_⟩
        rw [e]
        exact nm_e hp
    · rw [if_neg h2] at hp
      exact br_f (fun y => h2 ((tc_cg ec).symm.trans y)) (xs_v48 hs hp)
end
end
section
/-! the component settles all knots -/
section
variable {ns nc mr ct jn pn hn fn : Nat} {pl ph dp oc fl fz : Int32}
variable {B H U lo up fa va me mt mo wi K A D R co T sk ne od su sv fi ya yp yb S C L Y ys yr : Nat → Int32}
theorem xk_kn {post : Int32 → Prop} {s : Nat} {p : Int32} (hnc : nc ≤ 3) (hH : tc_GH nc H) (hs : s < 12) (ep : p = nI s) (hp : post (nI (tc_kn H s))) : wpX_knotOf post ((nI ns), (nI nc), (nI mr), (nI ct), pl, ph, dp, oc, fl, B, H, U, lo, up, fa, va, me, mt, mo, wi, K, A, D, R, co, T, sk, ne, od, su, sv, fi) p := by
  subst ep
  have e : H (nI s).toNatClampNeg = H s := tc_cg (nI_clamp (by omega))
  have hi : vp_in (nI s) 12 := vp_in_nI hs (by decide)
  refine And.intro hi ?_
  rcases hH s hs with z | ⟨c, hcc, z⟩
  · have z' : H s < 0 := by rw [z]; exact tc_m1
    rw [tc_kn_n z'] at hp
    rw [e]
    exact br_t z' hp
  · rw [tc_kn_c z (by omega)] at hp
    rw [e, z]
    refine br_f (nI_pos (by omega)) ⟨hi, ?_⟩
    rw [show (12 : Int32) + nI c = nI (12 + c) from nI_add 12 c]
    exact hp
theorem xk_sj {post : Int32 → Prop} {r : Nat} (hc : ct ≤ 24) (hn : ns ≤ 12) (hnc : nc ≤ 3) (hH : tc_GH nc H) (hR : tc_GR ns nc ct K A D) (hr : r < ct) (hp : post (nI (tc_sj K A D H r))) : wpX_subjectKnot post ((nI ns), (nI nc), (nI mr), (nI ct), pl, ph, dp, oc, fl, B, H, U, lo, up, fa, va, me, mt, mo, wi, K, A, D, R, co, T, sk, ne, od, su, sv, fi) (nI r) := by
  have e : (nI r).toNatClampNeg = r := nI_clamp (by omega)
  have hi : vp_in (nI r) 24 := vp_in_nI (by omega) (by decide)
  refine And.intro hi ?_
  rw [e]
  rcases hR r hr with ⟨h4, a, h1, ea⟩ | ⟨h0, a, h1, ea⟩ | ⟨h2, -, b, h1, eb⟩
  · rw [tc_sj_4 h4 ea (by omega)] at hp
    refine br_t h4 ⟨hi, ?_⟩
    rw [ea, show (12 : Int32) + nI a = nI (12 + a) from nI_add 12 a]
    exact hp
  · rw [tc_sj_a h0 ea (by omega)] at hp
    have n4 : ¬ K r = 4 := by rcases h0 with h | h <;> rw [h] <;> decide
    have n2 : ¬ K r = 2 := by rcases h0 with h | h <;> rw [h] <;> decide
    have n3 : ¬ K r = 3 := by rcases h0 with h | h <;> rw [h] <;> decide
    refine br_f n4 ⟨hi, br_f n2 ⟨hi, br_f n3 (br_t rfl ⟨hi, ?_⟩)⟩⟩
    rw [e]
    exact xk_kn hnc hH (by omega) ea hp
  · rcases h2 with h2 | h2
    · rw [tc_sj_2 h2 eb (by omega)] at hp
      refine br_f (by rw [h2]; decide) ⟨hi, br_t h2 ?_⟩
      unfold wX_subjectKnot_40
      refine br_f (by decide) ⟨hi, ?_⟩
      rw [e]
      exact xk_kn hnc hH (by omega) eb hp
    · rw [tc_sj_3 h2 eb (by omega)] at hp
      refine br_f (by rw [h2]; decide) ⟨hi, br_f (by rw [h2]; decide) ⟨hi, br_t h2 ?_⟩⟩
      unfold wX_subjectKnot_40
      refine br_f (by decide) ⟨hi, ?_⟩
      rw [e]
      exact xk_kn hnc hH (by omega) eb hp
theorem xk_sc {post : SX → Prop} {k : Nat} {co0 : Nat → Int32} (hc : ct ≤ 24) (hn : ns ≤ 12) (hnc : nc ≤ 3) (hH : tc_GH nc H) (hR : tc_GR ns nc ct K A D) (hT : tc_GT ns ct R T) (hk : k < 15)
    (hp : ∀ co dp sk, (∀ q, q < ct → tc_sj K A D H q = k → co q = tc_cv R T va q) → (∀ q, q < ct → ¬ tc_sj K A D H q = k → co q = co0 q) → post ((nI ns), (nI nc), (nI mr), (nI ct), pl, ph, dp, oc, fl, B, H, U, lo, up, fa, va, me, mt, mo, wi, K, A, D, R, co, T, sk, ne, od, su, sv, fi)) :
    ∀ d r f co dp sk, r + d = ct → d < f → (∀ q, q < r → tc_sj K A D H q = k → co q = tc_cv R T va q) → (∀ q, q < ct → ¬ tc_sj K A D H q = k → co q = co0 q) → wX_settleConditions_2 post (nI k) f (nI r) (nI ns) (nI nc) (nI mr) (nI ct) pl ph dp oc fl B H U lo up fa va me mt mo wi K A D R co T sk ne od su sv fi := by
  intro d
  induction d with
  | zero =>
    intro r f co dp sk hr hf h1 h2
    obtain ⟨f, rfl⟩ : ∃ g, f = g + 1 := ⟨f - 1, by omega⟩
    exact br_t (nI_le (by omega) (by omega)) (hp co dp sk (fun q hq => h1 q (by omega)) h2)
  | succ d ih =>
    intro r f co dp sk hr hf h1 h2
    obtain ⟨f, rfl⟩ : ∃ g, f = g + 1 := ⟨f - 1, by omega⟩
    have e : (nI r).toNatClampNeg = r := nI_clamp (by omega)
    have hi : vp_in (nI r) 24 := vp_in_nI (by omega) (by decide)
    have hk2 := tc_sj_15 hR hH hn hnc (show r < ct by omega)
    refine br_f (nI_ge (by omega) (by omega)) (xk_sj hc hn hnc hH hR (by omega) ?_)
    by_cases hs : tc_sj K A D H r = k
    · obtain ⟨n, h8, er, hg⟩ := hT r (by omega)
      have en : (R r).toNatClampNeg = n := by rw [er]; exact nI_clamp (by omega)
      refine br_t (by rw [hs]) ⟨hi, xe_ev hn (by omega) h8 hg (pk_mul 8 r) ((tc_cg e).trans er) (fun dp sk => ⟨hi, nm_r (e' := upd co r (tc_cv R T va r)) (by rw [e]; unfold tc_cv; rw [en]) (nm_r (nI_1 r) (ih (r + 1) f _ dp sk (by omega) (by omega) (fun q hq hqs => ?_) (fun q hq hqs => ?_)))⟩)⟩
      · by_cases z : q = r
        · rw [z, pk_us]
        · rw [pk_un z]; exact h1 q (by omega) hqs
      · rw [pk_un (fun z => hqs (by rw [z]; exact hs))]; exact h2 q hq hqs
    · refine br_f (fun z => hs ((nI_eq (by omega) (by omega)).mp z)) (nm_r (nI_1 r) (ih (r + 1) f co dp sk (by omega) (by omega) (fun q hq hqs => ?_) h2))
      by_cases z : q = r
      · rw [z] at hqs; exact absurd hqs hs
      · exact h1 q (by omega) hqs
theorem xk_cond {post : SX → Prop} {k : Nat} (hc : ct ≤ 24) (hn : ns ≤ 12) (hnc : nc ≤ 3) (hH : tc_GH nc H) (hR : tc_GR ns nc ct K A D) (hT : tc_GT ns ct R T) (hk : k < 15)
    (hp : ∀ co' dp sk, (∀ q, q < ct → tc_sj K A D H q = k → co' q = tc_cv R T va q) → (∀ q, q < ct → ¬ tc_sj K A D H q = k → co' q = co q) → post ((nI ns), (nI nc), (nI mr), (nI ct), pl, ph, dp, oc, fl, B, H, U, lo, up, fa, va, me, mt, mo, wi, K, A, D, R, co', T, sk, ne, od, su, sv, fi)) : wpX_settleConditions post ((nI ns), (nI nc), (nI mr), (nI ct), pl, ph, dp, oc, fl, B, H, U, lo, up, fa, va, me, mt, mo, wi, K, A, D, R, co, T, sk, ne, od, su, sv, fi) (nI k) :=
  Exists.intro (ct + 1) (xk_sc hc hn hnc hH hR hT hk hp ct 0 (ct + 1) co dp sk (by omega) (by omega) (fun q hq => absurd hq (by omega)) (fun _ _ _ => rfl))
/-- the second loop over the members: values -/
theorem xk_c2 {post : SX → Prop} {c : Nat} {M : Nat → List Nat} {va0 V : Nat → Int32} (hnc : nc ≤ 3) (hH : tc_GH nc H) (hc : c < 3) (hM : tc_MM M H) (hMe : tc_Me me mt M) (hV : ∀ s, s < 12 → tc_Va U H (lo s) (up s) (fa s) (tc_md H mo s) (wi (H s).toNatClampNeg) s = V s)
    (hp : ∀ va, (∀ s, s ∈ M c → va s = V s) → (∀ s, ¬ s ∈ M c → va s = va0 s) → post ((nI ns), (nI nc), (nI mr), (nI ct), pl, ph, dp, oc, fl, B, H, U, lo, up, fa, va, me, mt, mo, wi, K, A, D, R, co, T, sk, ne, od, su, sv, fi)) :
    ∀ l2 l1 f va, M c = l1 ++ l2 → l2.length < f → (∀ s, s ∈ l1 → va s = V s) → (∀ s, ¬ s ∈ M c → va s = va0 s) → wX_settleChoice_58 post (nI c) f (nI l1.length) (nI ns) (nI nc) (nI mr) (nI ct) pl ph dp oc fl B H U lo up fa va me mt mo wi K A D R co T sk ne od su sv fi := by
  obtain ⟨m1, m2, m3⟩ := hMe c hc
  have ec : (nI c).toNatClampNeg = c := nI_clamp (by omega)
  have hj : vp_in (nI c) 3 := vp_in_nI hc (by decide)
  intro l2
  induction l2 with
  | nil =>
    intro l1 f va hl hf h1 h2
    obtain ⟨f, rfl⟩ : ∃ g, f = g + 1 := ⟨f - 1, by omega⟩
    rw [List.append_nil] at hl
    refine ⟨hj, br_t ?_ (hp va (by rw [hl]; exact h1) h2)⟩
    rw [ec, m1, hl]
    exact nI_le (Nat.le_refl _) (by rw [← hl]; omega)
  | cons m l2 ih =>
    intro l1 f va hl hf h1 h2
    obtain ⟨f, rfl⟩ : ∃ g, f = g + 1 := ⟨f - 1, by omega⟩
    have hlen : (M c).length = l1.length + (l2.length + 1) := by rw [hl, List.length_append, List.length_cons]
    have hf' : l2.length + 1 < f + 1 := hf
    have hmm : m ∈ M c := by rw [hl]; exact List.mem_append_right _ List.mem_cons_self
    obtain ⟨hm, -⟩ := hM c hc m hmm
    have em : me ((12 : Int32) * nI c + nI l1.length).toNatClampNeg = nI m := (tc_cg (pk_cl (12 * c + l1.length) (tc_i12 c l1.length))).trans (m3 l1 m l2 hl)
    refine ⟨hj, br_f ?_ ⟨pk_in (12 * c + l1.length) 36 (by omega) (tc_i12 c l1.length), ?_⟩⟩
    · rw [ec, m1]; exact nI_ge (by omega) (by omega)
    rw [em]
    refine xs_value hnc hH hm (nm_r (nI_1 _) ?_)
    rw [hV m hm]
    have := ih (l1 ++ [m]) f (upd va m (V m)) (by rw [hl, List.append_assoc]; rfl) (by omega) (fun s hs => ?_) (fun s hs => ?_)
    · rw [List.length_append] at this
      exact this
    · by_cases z : s = m
      · rw [z, pk_us]
      · rw [pk_un z]
        rcases List.mem_append.mp hs with y | y
        · exact h1 s y
        · exact absurd (List.mem_singleton.mp y) z
    · rw [pk_un (fun z => hs (by rw [z]; exact hmm))]; exact h2 s hs
/-- the first loop over the members: bounds; then the winner -/
theorem xk_c1 {post : SX → Prop} {c : Nat} {M : Nat → List Nat} {lo0 up0 fa0 : Nat → Int32} (hct : ct ≤ 24) (hn : ns ≤ 12) (hnc : nc ≤ 3) (hH : tc_GH nc H) (hR : tc_GR ns nc ct K A D) (hc : c < 3) (hM : tc_MM M H) (hMe : tc_Me me mt M)
    (hp : ∀ lo up fa va', (∀ s, s ∈ M c → lo s = tc_Lo ct K D A B co va s ∧ up s = tc_Up ct K A B co (tc_md H mo s) s ∧ fa s = tc_Fa ct K A D B co va (up s) s) → (∀ s, ¬ s ∈ M c → lo s = lo0 s ∧ up s = up0 s ∧ fa s = fa0 s ∧ va' s = va s) →
      (∀ s, s ∈ M c → va' s = tc_Va U H (lo s) (up s) (fa s) (tc_md H mo s) (upd wi c (tc_Wi U lo up fa (M c) (mo c)) (H s).toNatClampNeg) s) → post ((nI ns), (nI nc), (nI mr), (nI ct), pl, ph, dp, oc, fl, B, H, U, lo, up, fa, va', me, mt, mo, upd wi c (tc_Wi U lo up fa (M c) (mo c)), K, A, D, R, co, T, sk, ne, od, su, sv, fi)) :
    ∀ l2 l1 f lo up fa, M c = l1 ++ l2 → l2.length < f → (∀ s, s ∈ l1 → lo s = tc_Lo ct K D A B co va s ∧ up s = tc_Up ct K A B co (tc_md H mo s) s ∧ fa s = tc_Fa ct K A D B co va (up s) s) → (∀ s, ¬ s ∈ M c → lo s = lo0 s ∧ up s = up0 s ∧ fa s = fa0 s) → wX_settleChoice_14 post (nI c) f (nI l1.length) (nI ns) (nI nc) (nI mr) (nI ct) pl ph dp oc fl B H U lo up fa va me mt mo wi K A D R co T sk ne od su sv fi := by
  have hMe' := hMe
  obtain ⟨m1, m2, m3⟩ := hMe c hc
  have ec : (nI c).toNatClampNeg = c := nI_clamp (by omega)
  have hj : vp_in (nI c) 3 := vp_in_nI hc (by decide)
  intro l2
  induction l2 with
  | nil =>
    intro l1 f lo up fa hl hf h1 h2
    obtain ⟨f, rfl⟩ : ∃ g, f = g + 1 := ⟨f - 1, by omega⟩
    rw [List.append_nil] at hl
    rw [← hl] at h1
    refine ⟨hj, br_t ?_ (xs_pick hc hM hMe' ⟨hj, nm_r (e' := upd wi c (tc_Wi U lo up fa (M c) (mo c))) (by rw [ec]) ⟨(M c).length + 1, ?_⟩⟩)⟩
    · rw [ec, m1, hl]
      exact nI_le (Nat.le_refl _) (by rw [← hl]; omega)
    · exact xk_c2 (M := M) (va0 := va) (V := fun s => tc_Va U H (lo s) (up s) (fa s) (tc_md H mo s) (upd wi c (tc_Wi U lo up fa (M c) (mo c)) (H s).toNatClampNeg) s) hnc hH hc hM hMe' (fun _ _ => rfl) (fun va' v1 v2 => hp lo up fa va' h1 (fun s hs => ⟨(h2 s hs).1, (h2 s hs).2.1, (h2 s hs).2.2, v2 s hs⟩) v1) (M c) [] _ va rfl (by omega) (fun s hs => absurd hs List.not_mem_nil) (fun _ _ => rfl)
  | cons m l2 ih =>
    intro l1 f lo up fa hl hf h1 h2
    obtain ⟨f, rfl⟩ : ∃ g, f = g + 1 := ⟨f - 1, by omega⟩
    have hlen : (M c).length = l1.length + (l2.length + 1) := by rw [hl, List.length_append, List.length_cons]
    have hf' : l2.length + 1 < f + 1 := hf
    have hmm : m ∈ M c := by rw [hl]; exact List.mem_append_right _ List.mem_cons_self
    obtain ⟨hm, -⟩ := hM c hc m hmm
    have em : me ((12 : Int32) * nI c + nI l1.length).toNatClampNeg = nI m := (tc_cg (pk_cl (12 * c + l1.length) (tc_i12 c l1.length))).trans (m3 l1 m l2 hl)
    refine ⟨hj, br_f ?_ ⟨pk_in (12 * c + l1.length) 36 (by omega) (tc_i12 c l1.length), ?_⟩⟩
    · rw [ec, m1]; exact nI_ge (by omega) (by omega)
    rw [em]
    refine xs_bounds hct hn hnc hH hR hm (nm_r (nI_1 _) ?_)
    have := ih (l1 ++ [m]) f (upd lo m (tc_Lo ct K D A B co va m)) (upd up m (tc_Up ct K A B co (tc_md H mo m) m)) (upd fa m (tc_Fa ct K A D B co va (tc_Up ct K A B co (tc_md H mo m) m) m)) (by rw [hl, List.append_assoc]; rfl) (by omega) (fun s hs => ?_) (fun s hs => ?_)
    · rw [List.length_append] at this
      exact this
    · by_cases z : s = m
      · rw [z, pk_us, pk_us, pk_us]; exact ⟨rfl, rfl, rfl⟩
      · rw [pk_un z, pk_un z, pk_un z]
        rcases List.mem_append.mp hs with y | y
        · exact h1 s y
        · exact absurd (List.mem_singleton.mp y) z
    · have z : s ≠ m := fun z => hs (by rw [z]; exact hmm)
      rw [pk_un z, pk_un z, pk_un z]; exact h2 s hs
theorem xk_choice {post : SX → Prop} {c : Nat} {M : Nat → List Nat} (hct : ct ≤ 24) (hn : ns ≤ 12) (hnc : nc ≤ 3) (hH : tc_GH nc H) (hR : tc_GR ns nc ct K A D) (hc : c < 3) (hM : tc_MM M H) (hMe : tc_Me me mt M)
    (hp : ∀ lo' up' fa' va' mo' wi', mo' = upd mo c (tc_Mo ct K A co (nI c)) → wi' = upd wi c (tc_Wi U lo' up' fa' (M c) (mo' c)) → (∀ s, s ∈ M c → lo' s = tc_Lo ct K D A B co va s ∧ up' s = tc_Up ct K A B co (tc_md H mo' s) s ∧ fa' s = tc_Fa ct K A D B co va (up' s) s) → (∀ s, ¬ s ∈ M c → lo' s = lo s ∧ up' s = up s ∧ fa' s = fa s ∧ va' s = va s) →
      (∀ s, s ∈ M c → va' s = tc_Va U H (lo' s) (up' s) (fa' s) (tc_md H mo' s) (wi' (H s).toNatClampNeg) s) → post ((nI ns), (nI nc), (nI mr), (nI ct), pl, ph, dp, oc, fl, B, H, U, lo', up', fa', va', me, mt, mo', wi', K, A, D, R, co, T, sk, ne, od, su, sv, fi)) : wpX_settleChoice post ((nI ns), (nI nc), (nI mr), (nI ct), pl, ph, dp, oc, fl, B, H, U, lo, up, fa, va, me, mt, mo, wi, K, A, D, R, co, T, sk, ne, od, su, sv, fi) (nI c) := by
  have ec : (nI c).toNatClampNeg = c := nI_clamp (by omega)
  refine xs_least (kd := 4) hct ⟨vp_in_nI hc (by decide), nm_r (e' := upd mo c (tc_Mo ct K A co (nI c))) (by rw [ec]; rfl) ⟨(M c).length + 1, ?_⟩⟩
  exact xk_c1 (M := M) (lo0 := lo) (up0 := up) (fa0 := fa) hct hn hnc hH hR hc hM hMe (fun lo' up' fa' va' h1 h2 h3 => hp lo' up' fa' va' _ _ rfl rfl h1 h2 h3) (M c) [] _ lo up fa rfl (by omega) (fun s hs => absurd hs List.not_mem_nil) (fun _ _ => ⟨rfl, rfl, rfl⟩)
/-- one knot more is settled -/
theorem tc_Se_n {M : Nat → List Nat} {co' va' lo' up' fa' mo' wi' : Nat → Int32} {rk : Nat → Nat} {k : Nat}
    (hn : ns ≤ 12) (hnc : nc ≤ 3) (hR : tc_GR ns nc ct K A D) (hH : tc_GH nc H) (hT : tc_GT ns ct R T) (hM : tc_MM M H) (hrk : tc_RK ns ct K A D H R T rk)
    (hinj : ∀ k', k' < 15 → rk k' = rk k → k' = k)
    (h0 : ∀ k', k' < 15 → rk k' < rk k → tc_Se ct M K A D B U H R T co va lo up fa mo wi k')
    (h1 : ∀ r, r < ct → tc_sj K A D H r = k → co' r = tc_cv R T va r)
    (h2 : ∀ c, c < 3 → 12 + c = k → mo' c = tc_Mo ct K A co' (nI c) ∧ wi' c = tc_Wi U lo' up' fa' (M c) (mo' c))
    (h3 : ∀ s, s < 12 → tc_kn H s = k → lo' s = tc_Lo ct K D A B co' va s ∧ up' s = tc_Up ct K A B co' (tc_md H mo' s) s ∧ fa' s = tc_Fa ct K A D B co' va (up' s) s ∧ va' s = tc_Va U H (lo' s) (up' s) (fa' s) (tc_md H mo' s) (wi' (H s).toNatClampNeg) s)
    (f1 : ∀ r, r < ct → ¬ tc_sj K A D H r = k → co' r = co r) (f2 : ∀ c, c < 3 → ¬ 12 + c = k → mo' c = mo c ∧ wi' c = wi c)
    (f3 : ∀ s, s < 12 → ¬ tc_kn H s = k → va' s = va s ∧ lo' s = lo s ∧ up' s = up s ∧ fa' s = fa s) :
    ∀ k', k' < 15 → rk k' < rk k + 1 → tc_Se ct M K A D B U H R T co' va' lo' up' fa' mo' wi' k' := by
  intro k' hk' hr
  by_cases z : k' = k
  · subst z
    have hv : ∀ r t, r < ct → t < ns → tc_sj K A D H r = k' → tc_ms K A R T r t → va t = va' t := by
      intro r t hr ht e m
      have := hrk.2 r t hr ht m
      rw [e] at this
      exact (f3 t (by omega) (fun y => by rw [y] at this; omega)).1.symm
    refine ⟨fun r hr e => ?_, h2, fun s hs e => ?_⟩
    · rw [h1 r hr e]
      exact tc_cv_c hn hT hr (fun t ht m => hv r t hr ht e m)
    · obtain ⟨a1, a2, a3, a4⟩ := h3 s hs e
      obtain ⟨g1, g2, g3, g4⟩ := tc_cgr (B := B) (D := D) (c := co') (c' := co') (v := va) (v' := va') hH hnc hs e (fun _ _ _ => rfl) (fun r hr e h23 => tc_va_c hn hR hr (fun t ht m => hv r t hr ht e m) h23)
      exact ⟨a1.trans g1, a2, a3.trans (g3 _), a4⟩
  · have hlt : rk k' < rk k := by
      have : rk k' ≠ rk k := fun y => z (hinj k' hk' y)
      omega
    refine tc_Se_k hn hnc hR hH hT hM (h0 k' hk' hlt) (fun r hr e => f1 r hr (by rw [e]; exact z)) (fun r t hr ht e m => ?_) (fun s hs e => f3 s hs (by rw [e]; exact z)) (fun c hc e => f2 c hc (by rw [e]; exact z))
    have := hrk.2 r t hr ht m
    rw [e] at this
    exact (f3 t (by omega) (fun y => by rw [y] at this; omega)).1
def tc_OD (od : Nat → Int32) (rk : Nat → Nat) : Prop := ∀ i, i < 15 → ∃ k, k < 15 ∧ od i = nI k ∧ rk k = i ∧ ∀ k', k' < 15 → rk k' = i → k' = k
theorem xr_lp {post : SX → Prop} {M : Nat → List Nat} {rk : Nat → Nat} (hct : ct ≤ 24) (hn : ns ≤ 12) (hnc : nc ≤ 3) (hH : tc_GH nc H) (hR : tc_GR ns nc ct K A D) (hT : tc_GT ns ct R T) (hM : tc_MM M H) (hMe : tc_Me me mt M) (hmem : ∀ c, c < 3 → ∀ s, s < 12 → H s = nI c → s ∈ M c) (hrk : tc_RK ns ct K A D H R T rk) (hod : tc_OD od rk)
    (hp : ∀ co dp sk lo up fa va mo wi, (∀ k, k < 15 → tc_Se ct M K A D B U H R T co va lo up fa mo wi k) → post ((nI ns), (nI nc), (nI mr), (nI ct), pl, ph, dp, 15, fl, B, H, U, lo, up, fa, va, me, mt, mo, wi, K, A, D, R, co, T, sk, ne, od, su, sv, fi)) :
    ∀ d i f co dp sk lo up fa va mo wi, i + d = 15 → d < f → (∀ k, k < 15 → rk k < i → tc_Se ct M K A D B U H R T co va lo up fa mo wi k) → wX_recompute_2 post f (nI i) (nI ns) (nI nc) (nI mr) (nI ct) pl ph dp 15 fl B H U lo up fa va me mt mo wi K A D R co T sk ne od su sv fi := by
  intro d
  induction d with
  | zero =>
    intro i f co dp sk lo up fa va mo wi hi hf h
    obtain ⟨f, rfl⟩ : ∃ g, f = g + 1 := ⟨f - 1, by omega⟩
    obtain rfl : i = 15 := by omega
    exact br_t (by decide) (hp co dp sk lo up fa va mo wi (fun k hk => h k hk (hrk.1 k hk)))
  | succ d ih =>
    intro i f co dp sk lo up fa va mo wi hi hf h
    obtain ⟨f, rfl⟩ : ∃ g, f = g + 1 := ⟨f - 1, by omega⟩
    obtain ⟨k, hk, eo, ei, hinj⟩ := hod i (by omega)
    have e : (nI i).toNatClampNeg = i := nI_clamp (by omega)
    have ek : (nI k).toNatClampNeg = k := nI_clamp (by omega)
    subst ei
    refine br_f (nI_ge (b := 15) (by omega) (by decide)) ⟨vp_in_nI (by omega) (by decide), nm_r ((tc_cg e).trans eo) (xk_cond hct hn hnc hH hR hT hk (fun co' dp sk c1 c2 => ?_))⟩
    by_cases h12 : k < 12
    · refine br_t (nI_lt (b := 12) h12 (by decide)) ⟨vp_in_nI h12 (by decide), ?_⟩
      rw [ek]
      by_cases hHk : H k < 0
      · refine br_f (fun z => Int32.not_le.mpr hHk z) (xs_bounds hct hn hnc hH hR h12 (xs_value hnc hH h12 (nm_r (nI_1 _) (ih _ f _ _ _ _ _ _ _ _ _ (by omega) (by omega) ?_))))
        have kk : tc_kn H k = k := tc_kn_n hHk
        have hone : ∀ s, s < 12 → tc_kn H s = k → s = k := by
          intro s hs es
          rcases hH s hs with z | ⟨c, hcc, z⟩
          · rw [tc_kn_n (by rw [z]; exact tc_m1)] at es; exact es
          · rw [tc_kn_c z (by omega)] at es; omega
        refine tc_Se_n hn hnc hR hH hT hM hrk hinj h c1 (fun c hc z => by omega) (fun s hs es => ?_) c2 (fun c hc z => ⟨rfl, rfl⟩) (fun s hs es => ?_)
        · obtain rfl := hone s hs es
          rw [pk_us, pk_us, pk_us, pk_us]
          exact ⟨rfl, rfl, rfl, rfl⟩
        · have : s ≠ k := fun z => es (by rw [z]; exact kk)
          rw [pk_un this, pk_un this, pk_un this, pk_un this]
          exact ⟨rfl, rfl, rfl, rfl⟩
      · refine br_t (Int32.not_lt.mp hHk) (nm_r (nI_1 _) (ih _ f _ _ _ _ _ _ _ _ _ (by omega) (by omega) ?_))
        have hno : ∀ s, s < 12 → tc_kn H s = k → False := by
          intro s hs es
          rcases hH s hs with z | ⟨c, hcc, z⟩
          · have z' : H s < 0 := by rw [z]; exact tc_m1
            rw [tc_kn_n z'] at es
            rw [es] at z'
            exact hHk z'
          · rw [tc_kn_c z (by omega)] at es; omega
        exact tc_Se_n hn hnc hR hH hT hM hrk hinj h c1 (fun c hc z => by omega) (fun s hs es => (hno s hs es).elim) c2 (fun c hc z => ⟨rfl, rfl⟩) (fun s hs es => ⟨rfl, rfl, rfl, rfl⟩)
    · obtain ⟨c, rfl⟩ : ∃ c, k = 12 + c := ⟨k - 12, by omega⟩
      have hc3 : c < 3 := by omega
      refine br_f (nI_nlt (b := 12) (by omega) (by omega)) ?_
      rw [show nI (12 + c) - 12 = nI c from (pk_sub (b := 12) (by omega)).trans (congrArg nI (by omega))]
      refine xk_choice (M := M) hct hn hnc hH hR hc3 hM hMe (fun lo' up' fa' va' mo' wi' emo ewi g1 g2 g3 => nm_r (nI_1 _) (ih _ f _ _ _ _ _ _ _ _ _ (by omega) (by omega) ?_))
      have hin : ∀ s, s < 12 → tc_kn H s = 12 + c → s ∈ M c := by
        intro s hs es
        rcases hH s hs with z | ⟨c', hcc, z⟩
        · rw [tc_kn_n (by rw [z]; exact tc_m1)] at es; omega
        · rw [tc_kn_c z (by omega)] at es
          obtain rfl : c' = c := by omega
          exact hmem c' hc3 s hs z
      refine tc_Se_n hn hnc hR hH hT hM hrk hinj h c1 (fun c' hc' z => ?_) (fun s hs es => ?_) c2 (fun c' hc' z => ?_) (fun s hs es => ?_)
      · obtain rfl : c' = c := by omega
        refine ⟨by rw [emo, pk_us], by rw [ewi, pk_us]⟩
      · have hm := hin s hs es
        obtain ⟨a1, a2, a3⟩ := g1 s hm
        exact ⟨a1, a2, a3, g3 s hm⟩
      · have : c' ≠ c := fun y => z (by rw [y])
        rw [emo, ewi, pk_un this, pk_un this]
        exact ⟨rfl, rfl⟩
      · have : ¬ s ∈ M c := fun y => es (by
          have := hM c hc3 s y
          exact tc_kn_c this.2 (by omega))
        obtain ⟨a1, a2, a3, a4⟩ := g2 s this
        exact ⟨a4, a1, a2, a3⟩
theorem xr_rec {post : SX → Prop} {M : Nat → List Nat} {rk : Nat → Nat} (hct : ct ≤ 24) (hn : ns ≤ 12) (hnc : nc ≤ 3) (hH : tc_GH nc H) (hR : tc_GR ns nc ct K A D) (hT : tc_GT ns ct R T) (hM : tc_MM M H) (hMe : tc_Me me mt M) (hmem : ∀ c, c < 3 → ∀ s, s < 12 → H s = nI c → s ∈ M c) (hrk : tc_RK ns ct K A D H R T rk) (hod : tc_OD od rk)
    (hp : ∀ co dp sk lo up fa va mo wi, (∀ k, k < 15 → tc_Se ct M K A D B U H R T co va lo up fa mo wi k) → post ((nI ns), (nI nc), (nI mr), (nI ct), pl, ph, dp, 15, fl, B, H, U, lo, up, fa, va, me, mt, mo, wi, K, A, D, R, co, T, sk, ne, od, su, sv, fi)) : wpX_recompute post ((nI ns), (nI nc), (nI mr), (nI ct), pl, ph, dp, 15, fl, B, H, U, lo, up, fa, va, me, mt, mo, wi, K, A, D, R, co, T, sk, ne, od, su, sv, fi) :=
  Exists.intro 16 (xr_lp hct hn hnc hH hR hT hM hMe hmem hrk hod hp 15 0 16 co dp sk lo up fa va mo wi (by omega) (by omega) (fun k hk h => absurd h (by omega)))
end
end
section
/-! the component orders the knots -/
theorem tc_b1 : ∀ i, i < 32 → bt 1 i = decide (i = 0) := by decide +kernel
theorem tc_bs {x : Int32} {k j : Nat} (hk : k < 32) (hj : j < 32) : bt (x ||| ((1 : Int32) <<< (nI k &&& 31))) j = (bt x j || decide (j = k)) := by
  rw [b_or, b_shl k hk 1 hj, tc_b1 (j - k) (by omega)]
  by_cases h : j = k
  · subst h
    rw [decide_eq_true (Nat.le_refl j), decide_eq_true (show j - j = 0 by omega), decide_eq_true rfl]; rfl
  · rw [decide_eq_false h]
    by_cases h2 : k ≤ j
    · rw [decide_eq_false (show ¬ j - k = 0 by omega), Bool.and_false]
    · rw [decide_eq_false h2, Bool.false_and]
theorem tc_bt0 {x : Int32} {k : Nat} (hk : k < 31) : ((x >>> (nI k &&& 31)) &&& 1) = 0 ↔ bt x k = false := by
  have e : bt (x >>> (nI k &&& 31)) 0 = bt x k := by rw [b_sshr k (by omega) x (by omega), if_pos (by omega), Nat.add_zero]
  constructor
  · intro h
    have a := congrArg (fun z => bt z 0) h
    simp only [b_and, b_0, tc_b1 0 (by omega), e, decide_true, Bool.and_true] at a
    exact a
  · intro h
    apply b_ext
    intro i hi
    rw [b_and, b_0, tc_b1 i hi]
    by_cases z : i = 0
    · subst z; rw [e, h]; rfl
    · rw [decide_eq_false z, Bool.and_false]
theorem tc_bsub {x y : Int32} : (x &&& (y ^^^ (-1))) = 0 ↔ ∀ j, j < 32 → bt x j = true → bt y j = true := by
  constructor
  · intro h j hj hx
    have a := congrArg (fun z => bt z j) h
    simp only [b_and, b_xor, b_0, b_m1 j hj, hx, Bool.true_and, Bool.xor_true] at a
    cases hy : bt y j
    · rw [hy] at a; exact absurd a (by decide)
    · rfl
  · intro h
    apply b_ext
    intro i hi
    rw [b_and, b_xor, b_0, b_m1 i hi]
    cases hx : bt x i
    · rfl
    · rw [h i hi hx]; rfl
section
variable {ns nc mr ct jn pn hn fn : Nat} {pl ph dp oc fl fz : Int32}
variable {B H U lo up fa va me mt mo wi K A D R co T sk ne od su sv fi ya yp yb S C L Y ys yr : Nat → Int32}
/-- what the first i tokens of rule r, and its first symbol, mention -/
def tc_mp (ns : Nat) (K A H T : Nat → Int32) (r i j : Nat) : Prop := ((K r = 2 ∨ K r = 3) ∧ ∃ t, t < ns ∧ A r = nI t ∧ tc_kn H t = j) ∨ ∃ q, q < i ∧ ∃ t, t < ns ∧ T (8 * r + q) = nI t ∧ tc_kn H t = j
theorem xo_ml {post : Int32 → Prop} {r n : Nat} (hn : ns ≤ 12) (hnc : nc ≤ 3) (hH : tc_GH nc H) (hr : r < 24) (h8 : n ≤ 8) (er : R r = nI n) (hg : tc_gs ns T (8 * r) n) (hp : ∀ m, (∀ j, j < 32 → (bt m j = true ↔ tc_mp ns K A H T r n j)) → post m) :
    ∀ d i f m, i + d = n → d < f → (∀ j, j < 32 → (bt m j = true ↔ tc_mp ns K A H T r i j)) → wX_mentionedKnots_39 post (nI r) (nI ns) (nI nc) (nI mr) (nI ct) pl ph dp oc fl B H U lo up fa va me mt mo wi K A D R co T sk ne od su sv fi f m (nI i) := by
  have e : (nI r).toNatClampNeg = r := nI_clamp (by omega)
  have hi : vp_in (nI r) 24 := vp_in_nI hr (by decide)
  intro d
  induction d with
  | zero =>
    intro i f m hd hf hm
    obtain ⟨f, rfl⟩ : ∃ g, f = g + 1 := ⟨f - 1, by omega⟩
    obtain rfl : i = n := by omega
    refine ⟨hi, br_t ?_ (hp m hm)⟩
    rw [e, er]; exact nI_le (Nat.le_refl _) (by omega)
  | succ d ih =>
    intro i f m hd hf hm
    obtain ⟨f, rfl⟩ : ∃ g, f = g + 1 := ⟨f - 1, by omega⟩
    have et : T ((8 : Int32) * nI r + nI i).toNatClampNeg = T (8 * r + i) := tc_cg (pk_cl (8 * r + i) (tc_i8 r i))
    refine ⟨hi, br_f ?_ ⟨pk_in (8 * r + i) 200 (by omega) (tc_i8 r i), nm_r et ?_⟩⟩
    · rw [e, er]; exact nI_ge (by omega) (by omega)
    by_cases hs : ∃ t, t < ns ∧ T (8 * r + i) = nI t
    · obtain ⟨t, ht, ett⟩ := hs
      have h15 := tc_kn_15 hH hnc (show t < 12 by omega)
      rw [ett]
      refine br_f (nI_ge ht (by omega)) (xk_kn hnc hH (show t < 12 by omega) rfl (nm_e (nm_r (nI_1 i) (ih (i + 1) f _ (by omega) (by omega) (fun j hj => ?_)))))
      rw [tc_bs (by omega) hj, Bool.or_eq_true, decide_eq_true_iff, hm j hj]
      constructor
      · rintro ((z | ⟨q, hq, z⟩) | z)
        · exact Or.inl z
        · exact Or.inr ⟨q, by omega, z⟩
        · exact Or.inr ⟨i, by omega, t, ht, ett, z.symm⟩
      · rintro (z | ⟨q, hq, t', ht', e1, e2⟩)
        · exact Or.inl (Or.inl z)
        · by_cases y : q = i
          · subst y
            obtain rfl : t' = t := (nI_eq (by omega) (by omega)).mp (e1.symm.trans ett)
            exact Or.inr e2.symm
          · exact Or.inl (Or.inr ⟨q, by omega, t', ht', e1, e2⟩)
    · have hge : nI ns ≤ T (8 * r + i) := by
        rcases hg i (by omega) with ⟨j, hj, z⟩ | ⟨j, h1, h2, z⟩ | ⟨z, -⟩ | ⟨j, h1, h2, z, -⟩
        · exact absurd ⟨j, hj, z⟩ hs
        · rw [z]; exact nI_le (by omega) (by omega)
        · rw [z]; exact nI_le (b := 30) (by omega) (by decide)
        · rw [z]; exact nI_le (by omega) (by omega)
      refine br_t hge (nm_r (nI_1 i) (ih (i + 1) f m (by omega) (by omega) (fun j hj => ?_)))
      rw [hm j hj]
      constructor
      · rintro (z | ⟨q, hq, z⟩)
        · exact Or.inl z
        · exact Or.inr ⟨q, by omega, z⟩
      · rintro (z | ⟨q, hq, t', ht', e1, e2⟩)
        · exact Or.inl z
        · by_cases y : q = i
          · subst y; exact absurd ⟨t', ht', e1⟩ hs
          · exact Or.inr ⟨q, by omega, t', ht', e1, e2⟩
theorem xo_ment {post : Int32 → Prop} {r : Nat} (hc : ct ≤ 24) (hn : ns ≤ 12) (hnc : nc ≤ 3) (hH : tc_GH nc H) (hR : tc_GR ns nc ct K A D) (hT : tc_GT ns ct R T) (hr : r < ct) (hp : ∀ m, (∀ j, j < 32 → (bt m j = true ↔ ∃ t, t < ns ∧ tc_ms K A R T r t ∧ tc_kn H t = j)) → post m) : wpX_mentionedKnots post ((nI ns), (nI nc), (nI mr), (nI ct), pl, ph, dp, oc, fl, B, H, U, lo, up, fa, va, me, mt, mo, wi, K, A, D, R, co, T, sk, ne, od, su, sv, fi) (nI r) := by
  have e : (nI r).toNatClampNeg = r := nI_clamp (by omega)
  have hi : vp_in (nI r) 24 := vp_in_nI (by omega) (by decide)
  obtain ⟨n, h8, er, hg⟩ := hT r hr
  have en : (R r).toNatClampNeg = n := by rw [er]; exact nI_clamp (by omega)
  have hp' : ∀ m, (∀ j, j < 32 → (bt m j = true ↔ tc_mp ns K A H T r n j)) → post m := by
    intro m hm
    refine hp m (fun j hj => ?_)
    rw [hm j hj]
    unfold tc_mp tc_ms
    rw [en]
    constructor
    · rintro (⟨z, t, ht, e1, e2⟩ | ⟨q, hq, t, ht, e1, e2⟩)
      · exact ⟨t, ht, Or.inl ⟨z, e1⟩, e2⟩
      · exact ⟨t, ht, Or.inr ⟨q, hq, e1⟩, e2⟩
    · rintro ⟨t, ht, (⟨z, e1⟩ | ⟨q, hq, e1⟩), e2⟩
      · exact Or.inl ⟨z, t, ht, e1, e2⟩
      · exact Or.inr ⟨q, hq, t, ht, e1, e2⟩
  have h22 : K r = 2 ∨ K r = 3 → wX_mentionedKnots_22 post (nI r) 0 (nI ns) (nI nc) (nI mr) (nI ct) pl ph dp oc fl B H U lo up fa va me mt mo wi K A D R co T sk ne od su sv fi := by
    intro h23
    rcases hR r hr with ⟨h4, -⟩ | ⟨h0, -⟩ | ⟨-, ⟨a, ha, ea⟩, -⟩
    · rcases h23 with h2 | h2 <;> exact absurd (h4.symm.trans h2) (by decide)
    · rcases h23 with h2 | h2 <;> rcases h0 with h0 | h0 <;> exact absurd (h0.symm.trans h2) (by decide)
    · have h15 := tc_kn_15 hH hnc (show a < 12 by omega)
      unfold wX_mentionedKnots_22
      rw [e]
      refine ⟨hi, xk_kn hnc hH (show a < 12 by omega) ea (nm_e ⟨n + 1, xo_ml hn hnc hH (by omega) h8 er hg hp' n 0 (n + 1) _ (by omega) (by omega) (fun j hj => ?_)⟩)⟩
      rw [tc_bs (by omega) hj, b_0, Bool.false_or, decide_eq_true_iff]
      constructor
      · intro z; exact Or.inl ⟨h23, a, ha, ea, z.symm⟩
      · rintro (⟨-, t, ht, e1, e2⟩ | ⟨q, hq, -⟩)
        · obtain rfl : t = a := (nI_eq (by omega) (by omega)).mp (e1.symm.trans ea)
          exact e2.symm
        · omega
  refine And.intro hi ?_
  rw [e]
  by_cases h2 : K r = 2
  · exact br_t h2 (h22 (Or.inl h2))
  · refine br_f h2 ⟨hi, ?_⟩
    by_cases h3 : K r = 3
    · exact br_t h3 (h22 (Or.inr h3))
    · refine br_f h3 ⟨n + 1, xo_ml hn hnc hH (by omega) h8 er hg hp' n 0 (n + 1) 0 (by omega) (by omega) (fun j hj => ?_)⟩
      rw [b_0]
      constructor
      · intro z; exact absurd z (by decide)
      · rintro (⟨z, -⟩ | ⟨q, hq, -⟩)
        · rcases z with z | z
          · exact absurd z h2
          · exact absurd z h3
        · omega
def tc_Ne (ns c : Nat) (K A D H R T ne : Nat → Int32) : Prop := ∀ k, k < 15 → ∀ j, j < 32 → (bt (ne k) j = true ↔ ∃ r, r < c ∧ tc_sj K A D H r = k ∧ ∃ t, t < ns ∧ tc_ms K A R T r t ∧ tc_kn H t = j)
theorem xo_bl {post : SX → Prop} (hc : ct ≤ 24) (hn : ns ≤ 12) (hnc : nc ≤ 3) (hH : tc_GH nc H) (hR : tc_GR ns nc ct K A D) (hT : tc_GT ns ct R T) (hp : ∀ ne, tc_Ne ns ct K A D H R T ne → post ((nI ns), (nI nc), (nI mr), (nI ct), pl, ph, dp, oc, fl, B, H, U, lo, up, fa, va, me, mt, mo, wi, K, A, D, R, co, T, sk, ne, od, su, sv, fi)) :
    ∀ d r f ne, r + d = ct → d < f → tc_Ne ns r K A D H R T ne → wX_buildNeeds_23 post (nI ns) (nI nc) (nI mr) (nI ct) pl ph dp oc fl f (nI r) B H U lo up fa va me mt mo wi K A D R co T sk ne od su sv fi := by
  intro d
  induction d with
  | zero =>
    intro r f ne hr hf h
    obtain ⟨f, rfl⟩ : ∃ g, f = g + 1 := ⟨f - 1, by omega⟩
    obtain rfl : r = ct := by omega
    exact br_t (nI_le (Nat.le_refl _) (by omega)) (hp ne h)
  | succ d ih =>
    intro r f ne hr hf h
    obtain ⟨f, rfl⟩ : ∃ g, f = g + 1 := ⟨f - 1, by omega⟩
    have h15 := tc_sj_15 hR hH hn hnc (show r < ct by omega)
    have e : (nI (tc_sj K A D H r)).toNatClampNeg = tc_sj K A D H r := nI_clamp (by omega)
    have hi : vp_in (nI (tc_sj K A D H r)) 15 := vp_in_nI h15 (by decide)
    refine br_f (nI_ge (by omega) (by omega)) (xk_sj hc hn hnc hH hR (by omega) ⟨hi, xo_ment hc hn hnc hH hR hT (by omega) (fun m hm => ⟨hi, ?_⟩)⟩)
    rw [e]
    refine nm_e (nm_r (nI_1 r) (ih (r + 1) f _ (by omega) (by omega) (fun k hk j hj => ?_)))
    by_cases z : k = tc_sj K A D H r
    · subst z
      rw [pk_us, b_or, Bool.or_eq_true, h _ hk j hj, hm j hj]
      constructor
      · rintro (⟨q, hq, x⟩ | x)
        · exact ⟨q, by omega, x⟩
        · exact ⟨r, by omega, rfl, x⟩
      · rintro ⟨q, hq, x, y⟩
        by_cases w : q = r
        · subst w; exact Or.inr y
        · exact Or.inl ⟨q, by omega, x, y⟩
    · rw [pk_un z, h k hk j hj]
      constructor
      · rintro ⟨q, hq, x⟩
        exact ⟨q, by omega, x⟩
      · rintro ⟨q, hq, x, y⟩
        have w : q ≠ r := fun w => z (by rw [← w]; exact x.symm)
        exact ⟨q, by omega, x, y⟩
theorem xo_bz {post : SX → Prop} (hc : ct ≤ 24) (hn : ns ≤ 12) (hnc : nc ≤ 3) (hH : tc_GH nc H) (hR : tc_GR ns nc ct K A D) (hT : tc_GT ns ct R T) (hp : ∀ ne, tc_Ne ns ct K A D H R T ne → post ((nI ns), (nI nc), (nI mr), (nI ct), pl, ph, dp, oc, fl, B, H, U, lo, up, fa, va, me, mt, mo, wi, K, A, D, R, co, T, sk, ne, od, su, sv, fi)) :
    ∀ d k f ne, k + d = 15 → d < f → (∀ q, q < k → ne q = 0) → wX_buildNeeds_2 post (nI ns) (nI nc) (nI mr) (nI ct) pl ph dp oc fl f (nI k) B H U lo up fa va me mt mo wi K A D R co T sk ne od su sv fi := by
  intro d
  induction d with
  | zero =>
    intro k f ne hk hf h
    obtain ⟨f, rfl⟩ : ∃ g, f = g + 1 := ⟨f - 1, by omega⟩
    obtain rfl : k = 15 := by omega
    refine br_t (by decide) ⟨ct + 1, xo_bl hc hn hnc hH hR hT hp ct 0 (ct + 1) ne (by omega) (by omega) (fun k hk j hj => ?_)⟩
    rw [h k hk, b_0]
    exact ⟨fun z => absurd z (by decide), fun ⟨r, hr, _⟩ => by omega⟩
  | succ d ih =>
    intro k f ne hk hf h
    obtain ⟨f, rfl⟩ : ∃ g, f = g + 1 := ⟨f - 1, by omega⟩
    have e : (nI k).toNatClampNeg = k := nI_clamp (by omega)
    refine br_f (nI_ge (b := 15) (by omega) (by decide)) ⟨vp_in_nI (by omega) (by decide), nm_r (e' := upd ne k 0) (by rw [e]) (nm_r (nI_1 k) (ih (k + 1) f _ (by omega) (by omega) (fun q hq => ?_)))⟩
    by_cases z : q = k
    · rw [z, pk_us]
    · rw [pk_un z]; exact h q (by omega)
/-- the order found so far -/
def tc_SI (ne od : Nat → Int32) (m : Int32) (o : Nat) : Prop := ∃ rk : Nat → Nat,
  (∀ k, k < 15 → bt m k = true → rk k < o ∧ ∀ j, j < 32 → bt (ne k) j = true → bt m j = true ∧ rk j < rk k) ∧
  (∀ i, i < o → ∃ k, k < 15 ∧ od i = nI k ∧ bt m k = true ∧ rk k = i ∧ ∀ k', k' < 15 → bt m k' = true → rk k' = i → k' = k) ∧
  o = tc_cn (bt m) 15
theorem tc_SI_0 {ne od : Nat → Int32} : tc_SI ne od 0 0 :=
  ⟨fun _ => 0, fun k _ h => absurd ((b_0 k).symm.trans h) (by decide), fun i h => absurd h (by omega), (tc_cn_f 15 (fun k _ => b_0 k)).symm⟩
theorem tc_SI_a {ne od : Nat → Int32} {m : Int32} {o k : Nat} (hne : ∀ k, k < 15 → ∀ j, j < 32 → bt (ne k) j = true → j < 15) (h : tc_SI ne od m o) (hk : k < 15) (hm : bt m k = false) (hs : ∀ j, j < 32 → bt (ne k) j = true → bt m j = true) : tc_SI ne (upd od o (nI k)) (m ||| ((1 : Int32) <<< (nI k &&& 31))) (o + 1) := by
  obtain ⟨rk, h1, h2, h3⟩ := h
  have hb : ∀ j, j < 32 → bt (m ||| ((1 : Int32) <<< (nI k &&& 31))) j = (bt m j || decide (j = k)) := fun j hj => tc_bs (by omega) hj
  have hnk : ∀ j, bt m j = true → j ≠ k := fun j hj z => by rw [z, hm] at hj; exact absurd hj (by decide)
  refine ⟨fun x => if x = k then o else rk x, fun k0 hk0 hb0 => ?_, fun i hi => ?_, ?_⟩
  · show (if k0 = k then o else rk k0) < o + 1 ∧ ∀ j, j < 32 → bt (ne k0) j = true → _ ∧ (if j = k then o else rk j) < (if k0 = k then o else rk k0)
    by_cases z : k0 = k
    · rw [if_pos z]
      refine ⟨by omega, fun j hj hb1 => ?_⟩
      rw [z] at hb1
      have hmj := hs j hj hb1
      rw [if_neg (hnk j hmj), hb j hj, hmj]
      exact ⟨rfl, (h1 j (hne k hk j hj hb1) hmj).1⟩
    · rw [if_neg z]
      have hm0 : bt m k0 = true := by
        rw [hb k0 (by omega), decide_eq_false z, Bool.or_false] at hb0; exact hb0
      obtain ⟨a1, a2⟩ := h1 k0 hk0 hm0
      refine ⟨by omega, fun j hj hb1 => ?_⟩
      obtain ⟨b1, b2⟩ := a2 j hj hb1
      rw [if_neg (hnk j b1), hb j hj, b1]
      exact ⟨rfl, b2⟩
  · by_cases z : i = o
    · subst z
      refine ⟨k, hk, pk_us, by rw [hb k (by omega), decide_eq_true rfl, Bool.or_true], if_pos rfl, fun k' hk' hb' e => ?_⟩
      by_cases w : k' = k
      · exact w
      · have e : (if k' = k then i else rk k') = i := e
        rw [if_neg w] at e
        rw [hb k' (by omega), decide_eq_false w, Bool.or_false] at hb'
        have := (h1 k' hk' hb').1
        omega
    · obtain ⟨k1, c1, c2, c3, c4, c5⟩ := h2 i (by omega)
      refine ⟨k1, c1, by rw [pk_un z]; exact c2, by rw [hb k1 (by omega), c3]; rfl, by show (if k1 = k then o else rk k1) = i; rw [if_neg (hnk k1 c3)]; exact c4, fun k' hk' hb' e => ?_⟩
      have e : (if k' = k then o else rk k') = i := e
      by_cases w : k' = k
      · rw [if_pos w] at e; omega
      · rw [if_neg w] at e
        rw [hb k' (by omega), decide_eq_false w, Bool.or_false] at hb'
        exact c5 k' hk' hb' e
  · rw [tc_cn_add (P := bt m) hm (by rw [hb k (by omega), decide_eq_true rfl, Bool.or_true]) 15 (fun j hj hjk => by rw [hb j (by omega), decide_eq_false hjk, Bool.or_false]) hk, h3]
def tc_SJ (ns ct : Nat) (K A D H R T : Nat → Int32) (m : Int32) (q j : Nat) : Prop := ∀ rk, tc_RK ns ct K A D H R T rk → ∀ k, k < 15 → (rk k < q ∨ (rk k = q ∧ k < j)) → bt m k = true
theorem xo_in {post : Int32 → SX → Prop} {J : Int32 → Int32 → Int32 → (Nat → Int32) → (Nat → Int32) → (Nat → Int32) → (Nat → Int32) → (Nat → Int32) → (Nat → Int32) → (Nat → Int32) → (Nat → Int32) → (Nat → Int32) → (Nat → Int32) → (Nat → Int32) → (Nat → Int32) → (Nat → Int32) → (Nat → Int32) → (Nat → Int32) → (Nat → Int32) → (Nat → Int32) → (Nat → Int32) → (Nat → Int32) → (Nat → Int32) → (Nat → Int32) → (Nat → Int32) → (Nat → Int32) → Prop} {q : Nat} (hn : ns ≤ 12) (hnc : nc ≤ 3) (hH : tc_GH nc H) (hR : tc_GR ns nc ct K A D) (hNe : tc_Ne ns ct K A D H R T ne) (hne : ∀ k, k < 15 → ∀ j, j < 32 → bt (ne k) j = true → j < 15) (hq : q < 15)
    (hp : ∀ m o od, tc_SI ne od m o → tc_SJ ns ct K A D H R T m (q + 1) 0 → J m (nI (q + 1)) (nI o) B H U lo up fa va me mt mo wi K A D R co T sk ne od su sv fi) :
    ∀ d j f m o od, j + d = 15 → d < f → tc_SI ne od m o → tc_SJ ns ct K A D H R T m q j → wX_sortKnots_21 post J (nI q) (nI ns) (nI nc) (nI mr) (nI ct) pl ph dp fl f m (nI j) (nI o) B H U lo up fa va me mt mo wi K A D R co T sk ne od su sv fi := by
  intro d
  induction d with
  | zero =>
    intro j f m o od hj hf h1 h2
    obtain ⟨f, rfl⟩ : ∃ g, f = g + 1 := ⟨f - 1, by omega⟩
    obtain rfl : j = 15 := by omega
    refine br_t (by decide) (nm_r (nI_1 q) (hp m o od h1 (fun rk hrk k hk z => h2 rk hrk k hk ?_)))
    rcases z with z | z <;> omega
  | succ d ih =>
    intro j f m o od hj hf h1 h2
    obtain ⟨f, rfl⟩ : ∃ g, f = g + 1 := ⟨f - 1, by omega⟩
    have e : (nI j).toNatClampNeg = j := nI_clamp (by omega)
    refine br_f (nI_ge (b := 15) (by omega) (by decide)) ?_
    by_cases hb : bt m j = true
    · refine br_f (fun z => by rw [(tc_bt0 (by omega)).mp z] at hb; exact absurd hb (by decide)) (nm_r (nI_1 j) (ih (j + 1) f m o od (by omega) (by omega) h1 (fun rk hrk k hk z => ?_)))
      by_cases w : k = j
      · rw [w]; exact hb
      · refine h2 rk hrk k hk ?_
        rcases z with z | z <;> omega
    · have hb0 : bt m j = false := Bool.eq_false_iff.mpr hb
      refine br_t ((tc_bt0 (by omega)).mpr hb0) ⟨vp_in_nI (by omega) (by decide), ?_⟩
      rw [e]
      by_cases hs : ∀ i, i < 32 → bt (ne j) i = true → bt m i = true
      · have ho : o < 15 := by
          obtain ⟨rk, -, -, h3⟩ := h1
          have := tc_cn_room (P := bt m) hb0 (show j < 15 by omega)
          omega
        have eo : (nI o).toNatClampNeg = o := nI_clamp (by omega)
        refine br_t (tc_bsub.mpr hs) ⟨vp_in_nI ho (by decide), nm_r (e' := upd od o (nI j)) (by rw [eo]) (nm_r (nI_1 o) (nm_e (nm_r (nI_1 j) (ih (j + 1) f _ (o + 1) _ (by omega) (by omega) (tc_SI_a hne h1 (by omega) hb0 hs) (fun rk hrk k hk z => ?_)))))⟩
        rw [tc_bs (by omega) (by omega)]
        by_cases w : k = j
        · rw [decide_eq_true w, Bool.or_true]
        · rw [h2 rk hrk k hk (by rcases z with z | z <;> omega)]; rfl
      · refine br_f (fun z => hs (tc_bsub.mp z)) (nm_r (nI_1 j) (ih (j + 1) f m o od (by omega) (by omega) h1 (fun rk hrk k hk z => ?_)))
        by_cases w : k = j
        · subst w
          rcases z with z | ⟨z, -⟩
          · exact h2 rk hrk k hk (Or.inl z)
          · refine absurd (fun i hi hbi => ?_) hs
            obtain ⟨r, hr, er, t, ht, hms, ek⟩ := (hNe k hk i hi).mp hbi
            have := hrk.2 r t hr ht hms
            rw [er, ek] at this
            exact h2 rk hrk i (hne k hk i hi hbi) (Or.inl (by omega))
        · refine h2 rk hrk k hk ?_
          rcases z with z | z <;> omega
theorem xo_out {post : Int32 → SX → Prop} (hn : ns ≤ 12) (hnc : nc ≤ 3) (hH : tc_GH nc H) (hR : tc_GR ns nc ct K A D) (hNe : tc_Ne ns ct K A D H R T ne) (hne : ∀ k, k < 15 → ∀ j, j < 32 → bt (ne k) j = true → j < 15)
    (h1 : ∀ od rk, tc_RK ns ct K A D H R T rk → tc_OD od rk → post 1 ((nI ns), (nI nc), (nI mr), (nI ct), pl, ph, dp, 15, fl, B, H, U, lo, up, fa, va, me, mt, mo, wi, K, A, D, R, co, T, sk, ne, od, su, sv, fi)) (h0 : ∀ oc od, (¬ ∃ rk, tc_RK ns ct K A D H R T rk) → post 0 ((nI ns), (nI nc), (nI mr), (nI ct), pl, ph, dp, oc, fl, B, H, U, lo, up, fa, va, me, mt, mo, wi, K, A, D, R, co, T, sk, ne, od, su, sv, fi)) :
    ∀ d q f m o od, q + d = 15 → d < f → tc_SI ne od m o → tc_SJ ns ct K A D H R T m q 0 → wX_sortKnots_13 post (nI ns) (nI nc) (nI mr) (nI ct) pl ph dp fl f m (nI q) (nI o) B H U lo up fa va me mt mo wi K A D R co T sk ne od su sv fi := by
  intro d
  induction d with
  | zero =>
    intro q f m o od hq hf i1 i2
    obtain ⟨f, rfl⟩ : ∃ g, f = g + 1 := ⟨f - 1, by omega⟩
    obtain rfl : q = 15 := by omega
    refine br_t (by decide) ?_
    have i1' := i1
    obtain ⟨rk, a1, a2, a3⟩ := i1'
    have ho : o ≤ 15 := by have := tc_cn_le (bt m) 15; omega
    by_cases z : o = 15
    · subst z
      have hfull := tc_cn_full (P := bt m) a3.symm
      refine br_t rfl (h1 od rk ⟨fun k hk => (a1 k hk (hfull k hk)).1, fun r t hr ht hms => ?_⟩ (fun i hi => ?_))
      · have hsj := tc_sj_15 hR hH hn hnc hr
        have hkn := tc_kn_15 hH hnc (show t < 12 by omega)
        exact ((a1 _ hsj (hfull _ hsj)).2 _ (by omega) ((hNe _ hsj _ (by omega)).mpr ⟨r, hr, rfl, t, ht, hms, rfl⟩)).2
      · obtain ⟨k, b1, b2, b3, b4, b5⟩ := a2 i hi
        exact ⟨k, b1, b2, b4, fun k' hk' e => b5 k' hk' (hfull k' hk') e⟩
    · refine br_f (fun y => z ((nI_eq (b := 15) (by omega) (by decide)).mp y)) (h0 (nI o) od ?_)
      rintro ⟨rk', hrk'⟩
      have : tc_cn (bt m) 15 = tc_cn (fun _ => true) 15 := tc_cn_c 15 (fun k hk => i2 rk' hrk' k hk (Or.inl (hrk'.1 k hk)))
      rw [tc_cn_t] at this
      omega
  | succ d ih =>
    intro q f m o od hq hf i1 i2
    obtain ⟨f, rfl⟩ : ∃ g, f = g + 1 := ⟨f - 1, by omega⟩
    refine br_f (nI_ge (b := 15) (by omega) (by decide)) ⟨16, ?_⟩
    exact xo_in hn hnc hH hR hNe hne (by omega) (fun m o od j1 j2 => ih (q + 1) f m o od (by omega) (by omega) j1 j2) 15 0 16 m o od (by omega) (by omega) i1 i2
theorem xo_sort {post : Int32 → SX → Prop} (hc : ct ≤ 24) (hn : ns ≤ 12) (hnc : nc ≤ 3) (hH : tc_GH nc H) (hR : tc_GR ns nc ct K A D) (hT : tc_GT ns ct R T)
    (h1 : ∀ ne od rk, tc_RK ns ct K A D H R T rk → tc_OD od rk → post 1 ((nI ns), (nI nc), (nI mr), (nI ct), pl, ph, dp, 15, fl, B, H, U, lo, up, fa, va, me, mt, mo, wi, K, A, D, R, co, T, sk, ne, od, su, sv, fi)) (h0 : ∀ ne oc od, (¬ ∃ rk, tc_RK ns ct K A D H R T rk) → post 0 ((nI ns), (nI nc), (nI mr), (nI ct), pl, ph, dp, oc, fl, B, H, U, lo, up, fa, va, me, mt, mo, wi, K, A, D, R, co, T, sk, ne, od, su, sv, fi)) : wpX_sortKnots post ((nI ns), (nI nc), (nI mr), (nI ct), pl, ph, dp, oc, fl, B, H, U, lo, up, fa, va, me, mt, mo, wi, K, A, D, R, co, T, sk, ne, od, su, sv, fi) := by
  refine Exists.intro 16 (xo_bz hc hn hnc hH hR hT (fun ne hNe => ?_) 15 0 16 ne (by omega) (by omega) (fun q hq => absurd hq (by omega)))
  refine Exists.intro 16 (xo_out hn hnc hH hR hNe (fun k hk j hj hb => ?_) (h1 ne) (h0 ne) 15 0 16 0 0 od (by omega) (by omega) tc_SI_0 (fun rk hrk k hk z => by omega))
  obtain ⟨r, hr, er, t, ht, hms, ek⟩ := (hNe k hk j hj).mp hb
  rw [← ek]
  exact tc_kn_15 hH hnc (by omega)
end
end
section
/-! the reference: memberships, expressions, rules -/
section
variable {ns nc mr ct jn pn hn fn : Nat} {pl ph dp oc fl fz : Int32}
variable {B H U lo up fa va me mt mo wi K A D R co T sk ne od su sv fi ya yp yb S C L Y ys yr : Nat → Int32}
theorem yb_mn {post : Int32 → Prop} {z1 z2 z3 z4 z5 p q q' : Int32} (e : q = q') (h : post (tc_mn p q')) : wpY_min post (z1, z2, z3, z4, z5, fz, B, U, ya, yp, yb, S, C, K, A, D, L, Y, ys, yr, fi) p q := by
  subst e; exact tc_mn_i h
theorem yb_mx {post : Int32 → Prop} {z1 z2 z3 z4 z5 p q q' : Int32} (e : q = q') (h : post (tc_mx p q')) : wpY_max post (z1, z2, z3, z4, z5, fz, B, U, ya, yp, yb, S, C, K, A, D, L, Y, ys, yr, fi) p q := by
  subst e; exact tc_mx_i h
theorem yb_pr {post : Int32 → Prop} {s : Nat} {x : Int32} (hs : s < 12) (h : post (tc_pr B s x)) : wpY_promote post ((nI ns), (nI nc), (nI mr), (nI jn), (nI ct), fz, B, U, ya, yp, yb, S, C, K, A, D, L, Y, ys, yr, fi) (nI s) x := by
  have e : B (nI s).toNatClampNeg = B s := tc_cg (nI_clamp (by omega))
  unfold tc_pr at h
  refine And.intro (vp_in_nI hs (by decide)) ?_
  by_cases c : B s = 0
  · rw [if_pos c] at h; exact br_t (e.trans c) h
  · rw [if_neg c] at h
    refine br_f (fun z => c (e.symm.trans z)) ?_
    by_cases c2 : x = 1
    · rw [if_pos c2] at h; exact br_t c2 h
    · rw [if_neg c2] at h; exact br_f c2 h
theorem yb_two {post : Int32 → Prop} {t p q : Int32} (h : post (tc_cb t p q)) : wpY_two post ((nI ns), (nI nc), (nI mr), (nI jn), (nI ct), fz, B, U, ya, yp, yb, S, C, K, A, D, L, Y, ys, yr, fi) t p q := by
  unfold tc_cb at h
  by_cases c1 : t = 31
  · rw [if_pos c1] at h; exact br_t c1 (yb_mn rfl h)
  · rw [if_neg c1] at h
    by_cases c2 : t = 32
    · rw [if_pos c2] at h; exact br_f c1 (br_t c2 (yb_mx rfl h))
    · rw [if_neg c2] at h
      by_cases c3 : t = 33
      · rw [if_pos c3] at h
        by_cases c4 : p = q
        · rw [if_pos c4] at h; exact br_f c1 (br_f c2 (br_t c3 (br_t c4 h)))
        · rw [if_neg c4] at h; exact br_f c1 (br_f c2 (br_t c3 (br_f c4 h)))
      · rw [if_neg c3] at h
        by_cases c4 : q ≤ p
        · rw [if_pos c4] at h; exact br_f c1 (br_f c2 (br_f c3 (br_t c4 h)))
        · rw [if_neg c4] at h; exact br_f c1 (br_f c2 (br_f c3 (br_f c4 h)))
theorem yj_lk {post : Int32 → Prop} {s : Int32} (hj : jn ≤ 12) : ∀ d i f, i + d = jn → d < f → post (tc_lk S C s d i) → wY_choiceOf_2 post s (nI ns) (nI nc) (nI mr) (nI jn) (nI ct) fz B U ya yp yb S C K A D L Y ys yr fi f (nI i) := by
  intro d
  induction d with
  | zero =>
    intro i f hi hf hp
    obtain ⟨f, rfl⟩ : ∃ g, f = g + 1 := ⟨f - 1, by omega⟩
    exact br_t (nI_le (by omega) (by omega)) hp
  | succ d ih =>
    intro i f hi hf hp
    obtain ⟨f, rfl⟩ : ∃ g, f = g + 1 := ⟨f - 1, by omega⟩
    have e : (nI i).toNatClampNeg = i := nI_clamp (by omega)
    have hi' : vp_in (nI i) 12 := vp_in_nI (by omega) (by decide)
    have hp : post (if S i = s then C i else tc_lk S C s d (i + 1)) := hp
    refine br_f (nI_ge (by omega) (by omega)) ⟨hi', ?_⟩
    rw [e]
    by_cases h : S i = s
    · rw [if_pos h] at hp; exact br_t h ⟨hi', hp⟩
    · rw [if_neg h] at hp; exact br_f h (nm_r (nI_1 i) (ih (i + 1) f (by omega) (by omega) hp))
theorem yj_ch {post : Int32 → Prop} {s : Nat} (hJ : tc_GJ ns nc jn S C H) (hs : s < 12) (hp : post (H s)) : wpY_choiceOf post ((nI ns), (nI nc), (nI mr), (nI jn), (nI ct), fz, B, U, ya, yp, yb, S, C, K, A, D, L, Y, ys, yr, fi) (nI s) := by
  rw [hJ.2.2.1 s hs] at hp
  exact Exists.intro (jn + 1) (yj_lk (tc_GJ_12 hJ) jn 0 (jn + 1) (by omega) (by omega) hp)
theorem ye_lp {post : Int32 → SY → Prop} {r n : Nat} (hn : ns ≤ 12) (hr : r < 25) (h8 : n ≤ 8) (er : L r = nI n) (hg : tc_gs ns Y (8 * r) n) (hp : ∀ ys, post (tc_ev ya Y (8 * r) n) ((nI ns), (nI nc), (nI mr), (nI jn), (nI ct), fz, B, U, ya, yp, yb, S, C, K, A, D, L, Y, ys, yr, fi)) : ∀ d i f ys, i + d = n → d < f → tc_Rs ys (tc_rn ya Y (8 * r) i) → wY_cond_4 post (nI r) (nI ns) (nI nc) (nI mr) (nI jn) (nI ct) fz f (nI (tc_rn ya Y (8 * r) i).length) (nI i) B U ya yp yb S C K A D L Y ys yr fi := by
  have e : (nI r).toNatClampNeg = r := nI_clamp (by omega)
  have hir : vp_in (nI r) 25 := vp_in_nI hr (by decide)
  intro d
  induction d with
  | zero =>
    intro i f ys hi hf hR
    obtain ⟨f, rfl⟩ : ∃ g, f = g + 1 := ⟨f - 1, by omega⟩
    obtain rfl : i = n := by omega
    have hl := tc_rn_l (v := ya) hn i hg
    have hh := tc_hg_p hn i hg
    have h := hp ys
    refine ⟨hir, br_t (by rw [e, er]; exact nI_le (Nat.le_refl _) (by omega)) ?_⟩
    by_cases z : i = 0
    · subst z; exact br_t rfl h
    · have h1 := hh.2 (by omega)
      have e0 : ys 0 = tc_ev ya Y (8 * r) i := tc_Rs_bo (by omega) hR
      rw [← e0] at h
      exact br_f (nI_ne0 (by omega) (by omega)) h
  | succ d ih =>
    intro i f ys hi hf hR
    obtain ⟨f, rfl⟩ : ∃ g, f = g + 1 := ⟨f - 1, by omega⟩
    have hl := tc_rn_l (v := ya) hn i (fun q hq => hg q (by omega))
    have hh := (tc_hg_p hn i (fun q hq => hg q (by omega))).1
    have et : Y (nI r * (8 : Int32) + nI i).toNatClampNeg = Y (8 * r + i) := tc_cg (pk_cl (8 * r + i) (tc_i8' r i))
    have hk := hg i (by omega)
    rw [← hl] at hk
    have hstep : ∀ ys l, tc_sp ya (tc_rn ya Y (8 * r) i) (Y (8 * r + i)) = l → tc_Rs ys l → wY_cond_4 post (nI r) (nI ns) (nI nc) (nI mr) (nI jn) (nI ct) fz f (nI l.length) (nI (i + 1)) B U ya yp yb S C K A D L Y ys yr fi := by
      intro ys l el hR'
      subst el
      exact ih (i + 1) f ys (by omega) (by omega) hR'
    refine ⟨hir, br_f (by rw [e, er]; exact nI_ge (by omega) (by omega)) ⟨pk_in (8 * r + i) 200 (by omega) (tc_i8' r i), nm_r et ?_⟩⟩
    have hle : (tc_rn ya Y (8 * r) i).length < 8 := by omega
    generalize tc_rn ya Y (8 * r) i = l at hR hk hstep hle
    generalize Y (8 * r + i) = t at hk hstep
    rcases hk with ⟨j, hj, rfl⟩ | ⟨j, h1, h2, rfl⟩ | ⟨rfl, h1⟩ | ⟨j, h1, h2, rfl, h3⟩
    · have ev : ya (nI j).toNatClampNeg = ya j := tc_cg (nI_clamp (by omega))
      have el : (nI l.length).toNatClampNeg = l.length := nI_clamp (by omega)
      refine br_f (tc_20 (by omega)) ⟨vp_in_nI (by omega) (by decide), vp_in_nI hle (by decide), ?_⟩
      rw [ev, el]
      exact nm_e (nm_r (nI_1 _) (nm_r (nI_1 i) (hstep _ (ya j :: l) (tc_sp_a (by omega)) ⟨pk_us, tc_Rs_u hR (Nat.le_refl _)⟩)))
    · have el : (nI l.length).toNatClampNeg = l.length := nI_clamp (by omega)
      refine br_t (tc_20' h1 (by omega)) (br_f (tc_22 h2) ⟨vp_in_nI hle (by decide), ?_⟩)
      rw [el]
      exact nm_e (nm_r (nI_1 _) (nm_r (nI_1 i) (hstep _ ((nI j - 20) :: l) (tc_sp_b h1 h2) ⟨pk_us, tc_Rs_u hR (Nat.le_refl _)⟩)))
    · match l, hR, hle, h1, hstep with
      | x :: l, hR, hle, h1, hstep =>
        have h8' : l.length + 1 < 8 := hle
        have e0 : nI (x :: l).length - 1 = nI l.length := nI_pred _
        have e1 : (nI (x :: l).length - 1).toNatClampNeg = l.length := by rw [e0]; exact nI_clamp (by omega)
        refine br_t (by decide) (br_t (by decide) (br_t rfl ⟨pk_in l.length 8 (by omega) e0, pk_in l.length 8 (by omega) e0, ?_⟩))
        rw [e1, hR.1]
        exact nm_e (nm_r (nI_1 i) (hstep _ ((2 - x) :: l) tc_sp_c ⟨pk_us, tc_Rs_u hR.2 (Nat.le_refl _)⟩))
    · match l, hR, hle, h3, hstep with
      | [x], hR, hle, h3, hstep => exact absurd (show 2 ≤ 1 from h3) (by decide)
      | y :: x :: l, hR, hle, h3, hstep =>
        have h8' : l.length + 1 + 1 < 8 := hle
        have e0 : nI (y :: x :: l).length + (-1) = nI (l.length + 1) := pk_m1 _
        have e1 : nI (l.length + 1) - 1 = nI l.length := nI_pred _
        have c1 : (nI (l.length + 1)).toNatClampNeg = l.length + 1 := nI_clamp (by omega)
        have c0 : (nI l.length).toNatClampNeg = l.length := nI_clamp (by omega)
        refine br_t (tc_20' (by omega) (by omega)) (br_t (tc_22' (by omega) (by omega)) (br_f (tc_n30 (by omega) (by omega)) (nm_r e0 ?_)))
        rw [e1, c1, c0]
        have a1 : ys (l.length + 1) = y := hR.1
        have a2 : ys l.length = x := hR.2.1
        rw [a1, a2]
        exact ⟨vp_in_nI (by omega) (by decide), vp_in_nI (by omega) (by decide), yb_two ⟨vp_in_nI (by omega) (by decide), nm_e (nm_r (nI_1 i) (hstep _ (tc_cb (nI j) x y :: l) (tc_sp_d h1 h2) ⟨pk_us, tc_Rs_u hR.2.2 (Nat.le_refl _)⟩))⟩⟩
theorem ye_cond {post : Int32 → SY → Prop} {r n : Nat} (hn : ns ≤ 12) (hr : r < 25) (h8 : n ≤ 8) (er : L r = nI n) (hg : tc_gs ns Y (8 * r) n) (hp : ∀ ys, post (tc_ev ya Y (8 * r) n) ((nI ns), (nI nc), (nI mr), (nI jn), (nI ct), fz, B, U, ya, yp, yb, S, C, K, A, D, L, Y, ys, yr, fi)) : wpY_cond post ((nI ns), (nI nc), (nI mr), (nI jn), (nI ct), fz, B, U, ya, yp, yb, S, C, K, A, D, L, Y, ys, yr, fi) (nI r) :=
  Exists.intro (n + 1) (ye_lp hn hr h8 er hg hp n 0 (n + 1) ys (by omega) (by omega) True.intro)
theorem ye_cv {post : Int32 → SY → Prop} {r : Nat} (hc : ct ≤ 24) (hn : ns ≤ 12) (hT : tc_GT ns ct L Y) (hr : r < ct) (hp : ∀ ys, post (tc_cv L Y ya r) ((nI ns), (nI nc), (nI mr), (nI jn), (nI ct), fz, B, U, ya, yp, yb, S, C, K, A, D, L, Y, ys, yr, fi)) : wpY_cond post ((nI ns), (nI nc), (nI mr), (nI jn), (nI ct), fz, B, U, ya, yp, yb, S, C, K, A, D, L, Y, ys, yr, fi) (nI r) := by
  obtain ⟨n, h8, er, hg⟩ := hT r hr
  refine ye_cond hn (by omega) h8 er hg (fun ys => ?_)
  have h := hp ys
  unfold tc_cv at h
  rw [er, nI_clamp (by omega)] at h
  exact h
theorem yl_ls {post : Int32 → SY → Prop} {kd a : Int32} (hc : ct ≤ 24) (hn : ns ≤ 12) (hT : tc_GT ns ct L Y) : ∀ d r f x ys, r + d = ct → d < f → (∀ ys, post (tc_ls K A (tc_cv L Y ya) kd a d r x) ((nI ns), (nI nc), (nI mr), (nI jn), (nI ct), fz, B, U, ya, yp, yb, S, C, K, A, D, L, Y, ys, yr, fi)) → wY_least_5 post kd a f x (nI r) (nI ns) (nI nc) (nI mr) (nI jn) (nI ct) fz B U ya yp yb S C K A D L Y ys yr fi := by
  intro d
  induction d with
  | zero =>
    intro r f x ys hr hf hp
    obtain ⟨f, rfl⟩ : ∃ g, f = g + 1 := ⟨f - 1, by omega⟩
    exact br_t (nI_le (by omega) (by omega)) (hp ys)
  | succ d ih =>
    intro r f x ys hr hf hp
    obtain ⟨f, rfl⟩ : ∃ g, f = g + 1 := ⟨f - 1, by omega⟩
    have e : (nI r).toNatClampNeg = r := nI_clamp (by omega)
    have hi : vp_in (nI r) 25 := vp_in_nI (by omega) (by decide)
    have hp : ∀ ys, post (tc_ls K A (tc_cv L Y ya) kd a d (r + 1) (if K r = kd then (if A r = a then tc_mn x (tc_cv L Y ya r) else x) else x)) ((nI ns), (nI nc), (nI mr), (nI jn), (nI ct), fz, B, U, ya, yp, yb, S, C, K, A, D, L, Y, ys, yr, fi) := hp
    refine br_f (nI_ge (by omega) (by omega)) ⟨hi, ?_⟩
    by_cases h1 : K r = kd
    · rw [if_pos h1] at hp
      refine br_t ((tc_cg e).trans h1) ⟨hi, ?_⟩
      by_cases h2 : A r = a
      · rw [if_pos h2] at hp
        exact br_t ((tc_cg e).trans h2) (ye_cv hc hn hT (by omega) (fun ys => yb_mn rfl (nm_r (nI_1 r) (ih (r + 1) f _ ys (by omega) (by omega) hp))))
      · rw [if_neg h2] at hp
        exact br_f (fun z => h2 ((tc_cg e).symm.trans z)) (nm_r (nI_1 r) (ih (r + 1) f _ ys (by omega) (by omega) hp))
    · rw [if_neg h1] at hp
      exact br_f (fun z => h1 ((tc_cg e).symm.trans z)) (nm_r (nI_1 r) (ih (r + 1) f _ ys (by omega) (by omega) hp))
theorem yl_least {post : Int32 → SY → Prop} {kd a : Int32} (hc : ct ≤ 24) (hn : ns ≤ 12) (hT : tc_GT ns ct L Y) (hp : ∀ ys, post (tc_ls K A (tc_cv L Y ya) kd a ct 0 2) ((nI ns), (nI nc), (nI mr), (nI jn), (nI ct), fz, B, U, ya, yp, yb, S, C, K, A, D, L, Y, ys, yr, fi)) : wpY_least post ((nI ns), (nI nc), (nI mr), (nI jn), (nI ct), fz, B, U, ya, yp, yb, S, C, K, A, D, L, Y, ys, yr, fi) kd a := Exists.intro (ct + 1) (yl_ls hc hn hT ct 0 (ct + 1) 2 ys (by omega) (by omega) hp)
theorem yl_gr {post : Int32 → SY → Prop} {kd a : Int32} (hc : ct ≤ 24) (hn : ns ≤ 12) (hT : tc_GT ns ct L Y) (hA : ∀ r, r < ct → K r = kd → ∃ t, t < 12 ∧ A r = nI t) : ∀ d r f x ys, r + d = ct → d < f → (∀ ys, post (tc_gr K D A (tc_cv L Y ya) ya kd a d r x) ((nI ns), (nI nc), (nI mr), (nI jn), (nI ct), fz, B, U, ya, yp, yb, S, C, K, A, D, L, Y, ys, yr, fi)) → wY_greatest_5 post kd a f x (nI r) (nI ns) (nI nc) (nI mr) (nI jn) (nI ct) fz B U ya yp yb S C K A D L Y ys yr fi := by
  intro d
  induction d with
  | zero =>
    intro r f x ys hr hf hp
    obtain ⟨f, rfl⟩ : ∃ g, f = g + 1 := ⟨f - 1, by omega⟩
    exact br_t (nI_le (by omega) (by omega)) (hp ys)
  | succ d ih =>
    intro r f x ys hr hf hp
    obtain ⟨f, rfl⟩ : ∃ g, f = g + 1 := ⟨f - 1, by omega⟩
    have e : (nI r).toNatClampNeg = r := nI_clamp (by omega)
    have hi : vp_in (nI r) 25 := vp_in_nI (by omega) (by decide)
    have hp : ∀ ys, post (tc_gr K D A (tc_cv L Y ya) ya kd a d (r + 1) (if K r = kd then (if D r = a then tc_mx x (tc_mn (ya (A r).toNatClampNeg) (tc_cv L Y ya r)) else x) else x)) ((nI ns), (nI nc), (nI mr), (nI jn), (nI ct), fz, B, U, ya, yp, yb, S, C, K, A, D, L, Y, ys, yr, fi) := hp
    refine br_f (nI_ge (by omega) (by omega)) ⟨hi, ?_⟩
    by_cases h1 : K r = kd
    · rw [if_pos h1] at hp
      refine br_t ((tc_cg e).trans h1) ⟨hi, ?_⟩
      by_cases h2 : D r = a
      · rw [if_pos h2] at hp
        obtain ⟨t, ht, eA⟩ := hA r (by omega) h1
        have eA' : A (nI r).toNatClampNeg = nI t := (tc_cg e).trans eA
        refine br_t ((tc_cg e).trans h2) (ye_cv hc hn hT (by omega) (fun ys => ⟨hi, pk_in t 12 ht eA', ?_⟩))
        rw [e]
        exact yb_mn rfl (yb_mx rfl (nm_r (nI_1 r) (ih (r + 1) f _ ys (by omega) (by omega) hp)))
      · rw [if_neg h2] at hp
        exact br_f (fun z => h2 ((tc_cg e).symm.trans z)) (nm_r (nI_1 r) (ih (r + 1) f _ ys (by omega) (by omega) hp))
    · rw [if_neg h1] at hp
      exact br_f (fun z => h1 ((tc_cg e).symm.trans z)) (nm_r (nI_1 r) (ih (r + 1) f _ ys (by omega) (by omega) hp))
theorem yl_great {post : Int32 → SY → Prop} {kd a : Int32} (hc : ct ≤ 24) (hn : ns ≤ 12) (hT : tc_GT ns ct L Y) (hA : ∀ r, r < ct → K r = kd → ∃ t, t < 12 ∧ A r = nI t) (hp : ∀ ys, post (tc_gr K D A (tc_cv L Y ya) ya kd a ct 0 0) ((nI ns), (nI nc), (nI mr), (nI jn), (nI ct), fz, B, U, ya, yp, yb, S, C, K, A, D, L, Y, ys, yr, fi)) : wpY_greatest post ((nI ns), (nI nc), (nI mr), (nI jn), (nI ct), fz, B, U, ya, yp, yb, S, C, K, A, D, L, Y, ys, yr, fi) kd a := Exists.intro (ct + 1) (yl_gr hc hn hT hA ct 0 (ct + 1) 0 ys (by omega) (by omega) hp)
theorem yl_df {post : Int32 → SY → Prop} {a : Int32} (hc : ct ≤ 24) (hn : ns ≤ 12) (hT : tc_GT ns ct L Y) : ∀ d r f ys, r + d = ct → d < f → (∀ ys, post (tc_df K A D (tc_cv L Y ya) a d r) ((nI ns), (nI nc), (nI mr), (nI jn), (nI ct), fz, B, U, ya, yp, yb, S, C, K, A, D, L, Y, ys, yr, fi)) → wY_defaultOf_2 post a f (nI r) (nI ns) (nI nc) (nI mr) (nI jn) (nI ct) fz B U ya yp yb S C K A D L Y ys yr fi := by
  intro d
  induction d with
  | zero =>
    intro r f ys hr hf hp
    obtain ⟨f, rfl⟩ : ∃ g, f = g + 1 := ⟨f - 1, by omega⟩
    exact br_t (nI_le (by omega) (by omega)) (hp ys)
  | succ d ih =>
    intro r f ys hr hf hp
    obtain ⟨f, rfl⟩ : ∃ g, f = g + 1 := ⟨f - 1, by omega⟩
    have e : (nI r).toNatClampNeg = r := nI_clamp (by omega)
    have hi : vp_in (nI r) 25 := vp_in_nI (by omega) (by decide)
    have hp : ∀ ys, post (if K r = 1 then (if A r = a then (if tc_cv L Y ya r = 0 then tc_df K A D (tc_cv L Y ya) a d (r + 1) else tc_mn (D r) (tc_cv L Y ya r)) else tc_df K A D (tc_cv L Y ya) a d (r + 1)) else tc_df K A D (tc_cv L Y ya) a d (r + 1)) ((nI ns), (nI nc), (nI mr), (nI jn), (nI ct), fz, B, U, ya, yp, yb, S, C, K, A, D, L, Y, ys, yr, fi) := hp
    refine br_f (nI_ge (by omega) (by omega)) ⟨hi, ?_⟩
    by_cases h1 : K r = 1
    · rw [if_pos h1] at hp
      refine br_t ((tc_cg e).trans h1) ⟨hi, ?_⟩
      by_cases h2 : A r = a
      · rw [if_pos h2] at hp
        refine br_t ((tc_cg e).trans h2) (ye_cv hc hn hT (by omega) (fun ys => ?_))
        by_cases h3 : tc_cv L Y ya r = 0
        · rw [if_pos h3] at hp
          exact br_t h3 (nm_r (nI_1 r) (ih (r + 1) f ys (by omega) (by omega) hp))
        · rw [if_neg h3] at hp
          refine br_f h3 ⟨hi, ?_⟩
          rw [e]
          exact yb_mn rfl (hp ys)
      · rw [if_neg h2] at hp
        exact br_f (fun z => h2 ((tc_cg e).symm.trans z)) (nm_r (nI_1 r) (ih (r + 1) f ys (by omega) (by omega) hp))
    · rw [if_neg h1] at hp
      exact br_f (fun z => h1 ((tc_cg e).symm.trans z)) (nm_r (nI_1 r) (ih (r + 1) f ys (by omega) (by omega) hp))
theorem yl_default {post : Int32 → SY → Prop} {a : Int32} (hc : ct ≤ 24) (hn : ns ≤ 12) (hT : tc_GT ns ct L Y) (hp : ∀ ys, post (tc_df K A D (tc_cv L Y ya) a ct 0) ((nI ns), (nI nc), (nI mr), (nI jn), (nI ct), fz, B, U, ya, yp, yb, S, C, K, A, D, L, Y, ys, yr, fi)) : wpY_defaultOf post ((nI ns), (nI nc), (nI mr), (nI jn), (nI ct), fz, B, U, ya, yp, yb, S, C, K, A, D, L, Y, ys, yr, fi) a := Exists.intro (ct + 1) (yl_df hc hn hT ct 0 (ct + 1) ys (by omega) (by omega) hp)
/-! the reference's equations -/
def tc_ym (ct : Nat) (K A H c : Nat → Int32) (s : Nat) : Int32 := if H s < 0 then 2 else tc_Mo ct K A c (H s)
def tc_yu (ct : Nat) (K A B H c : Nat → Int32) (s : Nat) : Int32 := tc_Up ct K A B c (tc_ym ct K A H c s) s
def tc_yf (ct : Nat) (K A D B H c v : Nat → Int32) (s : Nat) : Int32 := tc_Fa ct K A D B c v (tc_yu ct K A B H c s) s
def tc_yw (ct : Nat) (K A D B U H c v : Nat → Int32) (l : List Nat) (a : Int32) : Int32 := tc_Wi U (tc_Lo ct K D A B c v) (tc_yu ct K A B H c) (tc_yf ct K A D B H c v) l (tc_Mo ct K A c a)
def tc_yv (ct : Nat) (M : Nat → List Nat) (K A D B U H c v : Nat → Int32) (s : Nat) : Int32 := tc_Va U H (tc_Lo ct K D A B c v s) (tc_yu ct K A B H c s) (tc_yf ct K A D B H c v s) (tc_ym ct K A H c s) (tc_yw ct K A D B U H c v (M (H s).toNatClampNeg) (H s)) s
theorem yv_low {post : Int32 → SY → Prop} {s : Nat} (hc : ct ≤ 24) (hn : ns ≤ 12) (hR : tc_GR ns nc ct K A D) (hT : tc_GT ns ct L Y) (hs : s < 12) (hp : ∀ ys, post (tc_Lo ct K D A B (tc_cv L Y ya) ya s) ((nI ns), (nI nc), (nI mr), (nI jn), (nI ct), fz, B, U, ya, yp, yb, S, C, K, A, D, L, Y, ys, yr, fi)) : wpY_lowerOf post ((nI ns), (nI nc), (nI mr), (nI jn), (nI ct), fz, B, U, ya, yp, yb, S, C, K, A, D, L, Y, ys, yr, fi) (nI s) := by
  unfold wpY_lowerOf
  exact yl_great (kd := 2) hc hn hT (xs_A hn hR (Or.inl rfl)) (fun ys => yb_pr hs (hp ys))
theorem yv_u27 {post : Int32 → SY → Prop} {s : Nat} {m x : Int32} (hs : s < 12) (hp : post (tc_u1 B x m s) ((nI ns), (nI nc), (nI mr), (nI jn), (nI ct), fz, B, U, ya, yp, yb, S, C, K, A, D, L, Y, ys, yr, fi)) : wY_upperOf_27 post (nI s) x m (nI ns) (nI nc) (nI mr) (nI jn) (nI ct) fz B U ya yp yb S C K A D L Y ys yr fi := by
  have e : B (nI s).toNatClampNeg = B s := tc_cg (nI_clamp (by omega))
  have hi : vp_in (nI s) 12 := vp_in_nI hs (by decide)
  unfold tc_u1 at hp
  by_cases h2 : m = 2
  · rw [if_pos h2] at hp; exact br_t h2 (yb_pr hs hp)
  · rw [if_neg h2] at hp
    refine br_f h2 ?_
    by_cases h0 : m = 0
    · rw [if_pos h0] at hp; exact br_t h0 hp
    · rw [if_neg h0] at hp
      refine br_f h0 ⟨hi, ?_⟩
      by_cases hb : B s = 0
      · rw [if_pos hb] at hp; exact br_t (e.trans hb) (yb_mn rfl hp)
      · rw [if_neg hb] at hp; exact br_f (fun y => hb (e.symm.trans y)) hp
theorem yv_up {post : Int32 → SY → Prop} {s : Nat} (hc : ct ≤ 24) (hn : ns ≤ 12) (hT : tc_GT ns ct L Y) (hJ : tc_GJ ns nc jn S C H) (hs : s < 12) (hp : ∀ ys, post (tc_yu ct K A B H (tc_cv L Y ya) s) ((nI ns), (nI nc), (nI mr), (nI jn), (nI ct), fz, B, U, ya, yp, yb, S, C, K, A, D, L, Y, ys, yr, fi)) : wpY_upperOf post ((nI ns), (nI nc), (nI mr), (nI jn), (nI ct), fz, B, U, ya, yp, yb, S, C, K, A, D, L, Y, ys, yr, fi) (nI s) := by
  unfold wpY_upperOf
  refine yj_ch hJ hs (yl_least (kd := 0) hc hn hT (fun ys => ?_))
  unfold tc_yu tc_Up tc_ym at hp
  by_cases h : H s < 0
  · rw [if_pos h] at hp
    exact br_f (Int32.not_le.mpr h) (yv_u27 hs (hp ys))
  · rw [if_neg h] at hp
    exact br_t (Int32.not_lt.mp h) (yl_least (kd := 4) hc hn hT (fun ys => yv_u27 hs (hp ys)))
theorem yv_fall {post : Int32 → SY → Prop} {s : Nat} (hc : ct ≤ 24) (hn : ns ≤ 12) (hR : tc_GR ns nc ct K A D) (hT : tc_GT ns ct L Y) (hJ : tc_GJ ns nc jn S C H) (hs : s < 12) (hp : ∀ ys, post (tc_yf ct K A D B H (tc_cv L Y ya) ya s) ((nI ns), (nI nc), (nI mr), (nI jn), (nI ct), fz, B, U, ya, yp, yb, S, C, K, A, D, L, Y, ys, yr, fi)) : wpY_fallback post ((nI ns), (nI nc), (nI mr), (nI jn), (nI ct), fz, B, U, ya, yp, yb, S, C, K, A, D, L, Y, ys, yr, fi) (nI s) := by
  unfold wpY_fallback
  exact yl_default hc hn hT (fun ys => yl_great (kd := 3) hc hn hT (xs_A hn hR (Or.inr rfl)) (fun ys => yv_up hc hn hT hJ hs (fun ys => yb_mx rfl (yb_mn rfl (yb_pr hs (hp ys))))))
theorem yv_wish {post : Int32 → SY → Prop} {s : Nat} (hc : ct ≤ 24) (hn : ns ≤ 12) (hR : tc_GR ns nc ct K A D) (hT : tc_GT ns ct L Y) (hJ : tc_GJ ns nc jn S C H) (hs : s < 12) (hp : ∀ ys, post (tc_ws U (tc_yu ct K A B H (tc_cv L Y ya) s) (tc_yf ct K A D B H (tc_cv L Y ya) ya s) s) ((nI ns), (nI nc), (nI mr), (nI jn), (nI ct), fz, B, U, ya, yp, yb, S, C, K, A, D, L, Y, ys, yr, fi)) : wpY_wish post ((nI ns), (nI nc), (nI mr), (nI jn), (nI ct), fz, B, U, ya, yp, yb, S, C, K, A, D, L, Y, ys, yr, fi) (nI s) := by
  have e : U (nI s).toNatClampNeg = U s := tc_cg (nI_clamp (by omega))
  have hi : vp_in (nI s) 12 := vp_in_nI hs (by decide)
  unfold wpY_wish
  unfold tc_ws at hp
  refine And.intro hi ?_
  by_cases h : U s = 3
  · rw [if_pos h] at hp
    exact br_t (e.trans h) (yv_fall hc hn hR hT hJ hs hp)
  · rw [if_neg h] at hp
    refine br_f (fun z => h (e.symm.trans z)) (yv_up hc hn hT hJ hs (fun ys => ⟨hi, ?_⟩))
    rw [e]
    exact yb_mn rfl (hp ys)
theorem yv_fits {post : Int32 → SY → Prop} {s ln : Nat} (hc : ct ≤ 24) (hn : ns ≤ 12) (hR : tc_GR ns nc ct K A D) (hT : tc_GT ns ct L Y) (hJ : tc_GJ ns nc jn S C H) (hs : s < 12) (hl1 : 1 ≤ ln) (hl : ln ≤ 4)
    (ht : tc_ft (tc_Lo ct K D A B (tc_cv L Y ya) ya) (tc_yu ct K A B H (tc_cv L Y ya)) (tc_yf ct K A D B H (tc_cv L Y ya) ya) U ln s = true → ∀ ys, post 1 ((nI ns), (nI nc), (nI mr), (nI jn), (nI ct), fz, B, U, ya, yp, yb, S, C, K, A, D, L, Y, ys, yr, fi)) (hf : tc_ft (tc_Lo ct K D A B (tc_cv L Y ya) ya) (tc_yu ct K A B H (tc_cv L Y ya)) (tc_yf ct K A D B H (tc_cv L Y ya) ya) U ln s = false → ∀ ys, post 0 ((nI ns), (nI nc), (nI mr), (nI jn), (nI ct), fz, B, U, ya, yp, yb, S, C, K, A, D, L, Y, ys, yr, fi)) : wpY_fits post ((nI ns), (nI nc), (nI mr), (nI jn), (nI ct), fz, B, U, ya, yp, yb, S, C, K, A, D, L, Y, ys, yr, fi) (nI ln) (nI s) := by
  have e : U (nI s).toNatClampNeg = U s := tc_cg (nI_clamp (by omega))
  have hi : vp_in (nI s) 12 := vp_in_nI hs (by decide)
  have q : ∀ j, j < 5 → j ≠ ln → ¬ nI ln = nI j := fun j hj h z => h ((nI_eq (by omega) (by omega)).mp z).symm
  unfold wpY_fits
  refine yv_up hc hn hT hJ hs (fun ys => ?_)
  unfold tc_ft tc_mt at ht hf
  by_cases hu : tc_yu ct K A B H (tc_cv L Y ya) s = 2
  · rw [decide_eq_true hu, Bool.true_and] at ht hf
    refine br_t hu ?_
    by_cases h1 : ln = 1
    · subst h1
      rw [if_pos rfl] at ht hf
      refine br_t rfl (yv_low hc hn hR hT hs (fun ys => ?_))
      by_cases z : tc_Lo ct K D A B (tc_cv L Y ya) ya s = 2
      · exact br_t z (ht (decide_eq_true z) ys)
      · exact br_f z (hf (decide_eq_false z) ys)
    · rw [if_neg h1] at ht hf
      refine br_f (q 1 (by omega) (fun z => h1 z.symm)) ?_
      by_cases h2 : ln = 2
      · subst h2
        rw [if_pos rfl] at ht hf
        refine br_t rfl ⟨hi, ?_⟩
        by_cases z : U s = 2
        · exact br_t (e.trans z) (ht (decide_eq_true z) ys)
        · exact br_f (fun y => z (e.symm.trans y)) (hf (decide_eq_false z) ys)
      · rw [if_neg h2] at ht hf
        refine br_f (q 2 (by omega) (fun z => h2 z.symm)) ?_
        by_cases h4 : ln = 4
        · subst h4
          refine br_f (by decide) ⟨hi, ?_⟩
          by_cases z : U s = 0
          · exact br_t (e.trans z) (hf (by rw [decide_eq_true z]; rfl) ys)
          · exact br_f (fun y => z (e.symm.trans y)) (ht (by rw [decide_eq_false z]; rfl) ys)
        · obtain rfl : ln = 3 := by omega
          refine br_t rfl ⟨hi, ?_⟩
          by_cases z : U s = 0
          · exact br_t (e.trans z) (hf (by rw [decide_eq_true z]; rfl) ys)
          · refine br_f (fun y => z (e.symm.trans y)) (yv_fall hc hn hR hT hJ hs (fun ys => ?_))
            by_cases z2 : tc_yf ct K A D B H (tc_cv L Y ya) ya s = 2
            · exact br_t z2 (ht (by rw [decide_eq_false z, decide_eq_true z2]; rfl) ys)
            · exact br_f z2 (hf (by rw [decide_eq_false z, decide_eq_false z2]; rfl) ys)
  · rw [decide_eq_false hu, Bool.false_and] at hf
    exact br_f hu (hf rfl ys)
end
end
section
/-! the reference settles -/
section
variable {ns nc mr ct jn pn hn fn : Nat} {pl ph dp oc fl fz : Int32}
variable {B H U lo up fa va me mt mo wi K A D R co T sk ne od su sv fi ya yp yb S C L Y ys yr : Nat → Int32}
theorem yw_in {post : Int32 → SY → Prop} {J : Int32 → Int32 → Int32 → Int32 → Int32 → Int32 → Int32 → (Nat → Int32) → (Nat → Int32) → (Nat → Int32) → (Nat → Int32) → (Nat → Int32) → (Nat → Int32) → (Nat → Int32) → (Nat → Int32) → (Nat → Int32) → (Nat → Int32) → (Nat → Int32) → (Nat → Int32) → (Nat → Int32) → (Nat → Int32) → (Nat → Int32) → Prop} {c ln : Nat} (hc : ct ≤ 24) (hn : ns ≤ 12) (hR : tc_GR ns nc ct K A D) (hT : tc_GT ns ct L Y) (hJ : tc_GJ ns nc jn S C H) (hl1 : 1 ≤ ln) (hl : ln ≤ 4) : ∀ d i f ys, i + d = jn → d < f →
    (∀ s, (tc_ml S C (nI c) d i).find? (tc_ft (tc_Lo ct K D A B (tc_cv L Y ya) ya) (tc_yu ct K A B H (tc_cv L Y ya)) (tc_yf ct K A D B H (tc_cv L Y ya) ya) U ln) = some s → ∀ ys, post (nI s) ((nI ns), (nI nc), (nI mr), (nI jn), (nI ct), fz, B, U, ya, yp, yb, S, C, K, A, D, L, Y, ys, yr, fi)) →
    ((tc_ml S C (nI c) d i).find? (tc_ft (tc_Lo ct K D A B (tc_cv L Y ya) ya) (tc_yu ct K A B H (tc_cv L Y ya)) (tc_yf ct K A D B H (tc_cv L Y ya) ya) U ln) = none → ∀ ys, J (nI (ln + 1)) (nI ns) (nI nc) (nI mr) (nI jn) (nI ct) fz B U ya yp yb S C K A D L Y ys yr fi) → wY_winnerOf_22 post J (nI c) (nI ln) f (nI i) (nI ns) (nI nc) (nI mr) (nI jn) (nI ct) fz B U ya yp yb S C K A D L Y ys yr fi := by
  have hj12 := tc_GJ_12 hJ
  intro d
  induction d with
  | zero =>
    intro i f ys hi hf h1 h2
    obtain ⟨f, rfl⟩ : ∃ g, f = g + 1 := ⟨f - 1, by omega⟩
    exact br_t (nI_le (by omega) (by omega)) (nm_r (nI_1 ln) (h2 rfl ys))
  | succ d ih =>
    intro i f ys hi hf h1 h2
    obtain ⟨f, rfl⟩ : ∃ g, f = g + 1 := ⟨f - 1, by omega⟩
    have e : (nI i).toNatClampNeg = i := nI_clamp (by omega)
    have hi' : vp_in (nI i) 12 := vp_in_nI (by omega) (by decide)
    obtain ⟨s, hs, es, -⟩ := hJ.1 i (by omega)
    refine br_f (nI_ge (by omega) (by omega)) ⟨hi', ?_⟩
    rw [e]
    by_cases h : C i = nI c
    · have em : tc_ml S C (nI c) (d + 1) i = s :: tc_ml S C (nI c) d (i + 1) := by
        show (if C i = nI c then (S i).toNatClampNeg :: tc_ml S C (nI c) d (i + 1) else tc_ml S C (nI c) d (i + 1)) = _
        rw [if_pos h, es, nI_clamp (by omega)]
      rw [em, List.find?_cons] at h1 h2
      refine br_t h ⟨hi', ?_⟩
      rw [es]
      refine yv_fits hc hn hR hT hJ (by omega) hl1 hl (fun hft ys => ?_) (fun hft ys => ?_)
      · rw [hft] at h1 h2
        refine br_f (by decide) ⟨hi', ?_⟩
        rw [es]
        exact h1 s rfl ys
      · rw [hft] at h1 h2
        exact br_t rfl (nm_r (nI_1 i) (ih (i + 1) f ys (by omega) (by omega) h1 h2))
    · have em : tc_ml S C (nI c) (d + 1) i = tc_ml S C (nI c) d (i + 1) := if_neg h
      rw [em] at h1 h2
      exact br_f h (nm_r (nI_1 i) (ih (i + 1) f ys (by omega) (by omega) h1 h2))
theorem yw_out {post : Int32 → SY → Prop} {c : Nat} (hc : ct ≤ 24) (hn : ns ≤ 12) (hR : tc_GR ns nc ct K A D) (hT : tc_GT ns ct L Y) (hJ : tc_GJ ns nc jn S C H) : ∀ d ln f ys, ln + d = 5 → 1 ≤ ln → d < f →
    (∀ ys, post (tc_wn (tc_ft (tc_Lo ct K D A B (tc_cv L Y ya) ya) (tc_yu ct K A B H (tc_cv L Y ya)) (tc_yf ct K A D B H (tc_cv L Y ya) ya) U) (tc_M S C jn c) d ln) ((nI ns), (nI nc), (nI mr), (nI jn), (nI ct), fz, B, U, ya, yp, yb, S, C, K, A, D, L, Y, ys, yr, fi)) → wY_winnerOf_15 post (nI c) f (nI ln) (nI ns) (nI nc) (nI mr) (nI jn) (nI ct) fz B U ya yp yb S C K A D L Y ys yr fi := by
  intro d
  induction d with
  | zero =>
    intro ln f ys h5 h1 hf hp
    obtain ⟨f, rfl⟩ : ∃ g, f = g + 1 := ⟨f - 1, by omega⟩
    obtain rfl : ln = 5 := by omega
    exact br_t (by decide) (hp ys)
  | succ d ih =>
    intro ln f ys h5 h1 hf hp
    obtain ⟨f, rfl⟩ : ∃ g, f = g + 1 := ⟨f - 1, by omega⟩
    have hp : ∀ ys, post (tc_w1 ((tc_M S C jn c).find? (tc_ft (tc_Lo ct K D A B (tc_cv L Y ya) ya) (tc_yu ct K A B H (tc_cv L Y ya)) (tc_yf ct K A D B H (tc_cv L Y ya) ya) U ln)) (tc_wn (tc_ft (tc_Lo ct K D A B (tc_cv L Y ya) ya) (tc_yu ct K A B H (tc_cv L Y ya)) (tc_yf ct K A D B H (tc_cv L Y ya) ya) U) (tc_M S C jn c) d (ln + 1))) ((nI ns), (nI nc), (nI mr), (nI jn), (nI ct), fz, B, U, ya, yp, yb, S, C, K, A, D, L, Y, ys, yr, fi) := hp
    refine br_f (nI_nlt (a := 4) (by omega) (by decide)) ⟨jn + 1, yw_in hc hn hR hT hJ h1 (by omega) jn 0 _ ys (by omega) (by omega) (fun s es => ?_) (fun en => ?_)⟩
    · have es : (tc_M S C jn c).find? _ = some s := es
      rw [es] at hp; exact hp
    · have en : (tc_M S C jn c).find? _ = none := en
      rw [en] at hp; exact fun ys => ih (ln + 1) f ys (by omega) (by omega) (by omega) hp
theorem yw_win {post : Int32 → SY → Prop} {c : Nat} (hc : ct ≤ 24) (hn : ns ≤ 12) (hR : tc_GR ns nc ct K A D) (hT : tc_GT ns ct L Y) (hJ : tc_GJ ns nc jn S C H) (hp : ∀ ys, post (tc_yw ct K A D B U H (tc_cv L Y ya) ya (tc_M S C jn c) (nI c)) ((nI ns), (nI nc), (nI mr), (nI jn), (nI ct), fz, B, U, ya, yp, yb, S, C, K, A, D, L, Y, ys, yr, fi)) : wpY_winnerOf post ((nI ns), (nI nc), (nI mr), (nI jn), (nI ct), fz, B, U, ya, yp, yb, S, C, K, A, D, L, Y, ys, yr, fi) (nI c) := by
  unfold wpY_winnerOf
  refine yl_least (kd := 4) hc hn hT (fun ys => ?_)
  unfold tc_yw tc_Wi tc_Mo at hp
  by_cases h : tc_ls K A (tc_cv L Y ya) 4 (nI c) ct 0 2 = 2
  · rw [if_pos h] at hp
    exact br_t h ⟨5, yw_out hc hn hR hT hJ 4 1 5 ys (by omega) (by omega) (by omega) hp⟩
  · rw [if_neg h] at hp
    exact br_f h (hp ys)
theorem yw_41 {post : Int32 → SY → Prop} {s : Nat} {x : Int32} (hc : ct ≤ 24) (hn : ns ≤ 12) (hR : tc_GR ns nc ct K A D) (hT : tc_GT ns ct L Y) (hJ : tc_GJ ns nc jn S C H) (hs : s < 12) (hp : ∀ ys, post (tc_mx x (tc_ws U (tc_yu ct K A B H (tc_cv L Y ya) s) (tc_yf ct K A D B H (tc_cv L Y ya) ya s) s)) ((nI ns), (nI nc), (nI mr), (nI jn), (nI ct), fz, B, U, ya, yp, yb, S, C, K, A, D, L, Y, ys, yr, fi)) : wY_valueOf_41 post (nI s) x (nI ns) (nI nc) (nI mr) (nI jn) (nI ct) fz B U ya yp yb S C K A D L Y ys yr fi := by
  unfold wY_valueOf_41
  exact yv_wish hc hn hR hT hJ hs (fun ys => yb_mx rfl (hp ys))
theorem yw_val {post : Int32 → SY → Prop} {s : Nat} (hc : ct ≤ 24) (hn : ns ≤ 12) (hnc : nc ≤ 3) (hR : tc_GR ns nc ct K A D) (hT : tc_GT ns ct L Y) (hJ : tc_GJ ns nc jn S C H) (hs : s < 12) (hp : ∀ ys, post (tc_yv ct (tc_M S C jn) K A D B U H (tc_cv L Y ya) ya s) ((nI ns), (nI nc), (nI mr), (nI jn), (nI ct), fz, B, U, ya, yp, yb, S, C, K, A, D, L, Y, ys, yr, fi)) : wpY_valueOf post ((nI ns), (nI nc), (nI mr), (nI jn), (nI ct), fz, B, U, ya, yp, yb, S, C, K, A, D, L, Y, ys, yr, fi) (nI s) := by
  unfold wpY_valueOf
  refine yj_ch hJ hs (yv_low hc hn hR hT hs (fun ys => ?_))
  unfold tc_yv tc_Va at hp
  by_cases h : H s < 0
  · rw [if_pos h] at hp
    exact br_t h (yw_41 hc hn hR hT hJ hs hp)
  · rw [if_neg h] at hp
    refine br_f h (yl_least (kd := 4) hc hn hT (fun ys => ?_))
    have em : tc_ym ct K A H (tc_cv L Y ya) s = tc_ls K A (tc_cv L Y ya) 4 (H s) ct 0 2 := if_neg h
    rw [em] at hp
    by_cases h2 : tc_ls K A (tc_cv L Y ya) 4 (H s) ct 0 2 = 2
    · rw [if_pos h2] at hp
      refine br_t h2 ?_
      rcases tc_GJ_H hJ s hs with z | ⟨c, hcc, z⟩
      · rw [z] at h; exact absurd tc_m1 h
      · rw [z, nI_clamp (by omega)] at hp
        rw [z]
        refine yw_win hc hn hR hT hJ (fun ys => ?_)
        by_cases hw : tc_yw ct K A D B U H (tc_cv L Y ya) ya (tc_M S C jn c) (nI c) = nI s
        · rw [if_pos hw] at hp; exact br_t hw (hp ys)
        · rw [if_neg hw] at hp; exact br_f hw (hp ys)
    · rw [if_neg h2] at hp
      exact br_f h2 (yw_41 hc hn hR hT hJ hs hp)
theorem tc_upd_id {f : Nat → Int32} {k : Nat} {x : Int32} (h : x = f k) : upd f k x = f := by
  funext j
  by_cases z : j = k
  · rw [z, pk_us, h]
  · rw [pk_un z]
/-- what the reference's values are to come to: F, by ranks -/
def tc_HV (ns ct : Nat) (M : Nat → List Nat) (K A D B U H L Y F : Nat → Int32) (rk : Nat → Nat) : Prop :=
  ∀ (y : Nat → Int32) (s : Nat), s < ns → (∀ t, t < ns → rk (tc_kn H t) < rk (tc_kn H s) → y t = F t) → tc_yv ct M K A D B U H (tc_cv L Y y) y s = F s
theorem tc_HV_f {M : Nat → List Nat} {F : Nat → Int32} {rk : Nat → Nat} {y : Nat → Int32} (h : tc_HV ns ct M K A D B U H L Y F rk) (hy : ∀ s, s < ns → tc_yv ct M K A D B U H (tc_cv L Y y) y s = y s) : ∀ n s, s < ns → rk (tc_kn H s) < n → y s = F s := by
  intro n
  induction n with
  | zero => intro s _ hs; omega
  | succ n ih =>
    intro s hs hr
    rw [← hy s hs]
    exact h y s hs (fun t ht htr => ih t ht (by omega))
theorem yz_in {post : SY → Prop} {J : Int32 → Int32 → Int32 → Int32 → Int32 → Int32 → Int32 → Int32 → (Nat → Int32) → (Nat → Int32) → (Nat → Int32) → (Nat → Int32) → (Nat → Int32) → (Nat → Int32) → (Nat → Int32) → (Nat → Int32) → (Nat → Int32) → (Nat → Int32) → (Nat → Int32) → (Nat → Int32) → (Nat → Int32) → (Nat → Int32) → (Nat → Int32) → Prop} {F : Nat → Int32} {rk : Nat → Nat} {q : Nat} (hc : ct ≤ 24) (hn : ns ≤ 12) (hnc : nc ≤ 3) (hR : tc_GR ns nc ct K A D) (hT : tc_GT ns ct L Y) (hJ : tc_GJ ns nc jn S C H) (hV : tc_HV ns ct (tc_M S C jn) K A D B U H L Y F rk) (hq : q < 17)
    (hp : ∀ fg ya ys, (∀ t, t < ns → rk (tc_kn H t) < q + 1 → ya t = F t) → (fg = 0 → ∀ t, t < ns → ya t = F t) → J fg (nI (q + 1)) (nI ns) (nI nc) (nI mr) (nI jn) (nI ct) fz B U ya yp yb S C K A D L Y ys yr fi) :
    ∀ d s f fg ya ys, s + d = ns → d < f → (∀ t, t < ns → (rk (tc_kn H t) < q ∨ (rk (tc_kn H t) = q ∧ t < s)) → ya t = F t) → (fg = 0 → ∀ t, t < s → tc_yv ct (tc_M S C jn) K A D B U H (tc_cv L Y ya) ya t = ya t) → wY_settle_41 post J (nI q) f fg (nI s) (nI ns) (nI nc) (nI mr) (nI jn) (nI ct) fz B U ya yp yb S C K A D L Y ys yr fi := by
  intro d
  induction d with
  | zero =>
    intro s f fg ya ys hs hf h1 h2
    obtain ⟨f, rfl⟩ : ∃ g, f = g + 1 := ⟨f - 1, by omega⟩
    obtain rfl : s = ns := by omega
    refine br_t (nI_le (Nat.le_refl _) (by omega)) (nm_r (nI_1 q) (hp fg ya ys (fun t ht hr => h1 t ht (by omega)) (fun z t ht => ?_)))
    exact tc_HV_f hV (h2 z) (rk (tc_kn H t) + 1) t ht (by omega)
  | succ d ih =>
    intro s f fg ya ys hs hf h1 h2
    obtain ⟨f, rfl⟩ : ∃ g, f = g + 1 := ⟨f - 1, by omega⟩
    have e : (nI s).toNatClampNeg = s := nI_clamp (by omega)
    have hi : vp_in (nI s) 12 := vp_in_nI (by omega) (by decide)
    refine br_f (nI_ge (by omega) (by omega)) (yw_val hc hn hnc hR hT hJ (by omega) (fun ys => ⟨hi, ?_⟩))
    rw [e]
    have hF : rk (tc_kn H s) ≤ q → tc_yv ct (tc_M S C jn) K A D B U H (tc_cv L Y ya) ya s = F s := fun hr => hV ya s (by omega) (fun t ht htr => h1 t ht (by omega))
    by_cases hv : tc_yv ct (tc_M S C jn) K A D B U H (tc_cv L Y ya) ya s = ya s
    · refine br_t hv ⟨hi, nm_r (tc_upd_id hv) (nm_r (nI_1 s) (ih (s + 1) f fg ya ys (by omega) (by omega) (fun t ht hr => ?_) (fun z t ht => ?_)))⟩
      · by_cases w : t = s
        · rw [w]; rw [← hv]; exact hF (by rw [w] at hr; omega)
        · exact h1 t ht (by omega)
      · by_cases w : t = s
        · rw [w]; exact hv
        · exact h2 z t (by omega)
    · refine br_f hv ⟨hi, nm_e (nm_r (nI_1 s) (ih (s + 1) f 1 _ ys (by omega) (by omega) (fun t ht hr => ?_) (fun z => absurd z (by decide))))⟩
      by_cases w : t = s
      · rw [w, pk_us]; exact hF (by rw [w] at hr; omega)
      · rw [pk_un w]; exact h1 t ht (by omega)
theorem yz_out {post : SY → Prop} {F : Nat → Int32} {rk : Nat → Nat} (hc : ct ≤ 24) (hn : ns ≤ 12) (hnc : nc ≤ 3) (hR : tc_GR ns nc ct K A D) (hT : tc_GT ns ct L Y) (hJ : tc_GJ ns nc jn S C H) (hV : tc_HV ns ct (tc_M S C jn) K A D B U H L Y F rk) (hr15 : ∀ k, k < 15 → rk k < 15)
    (hp : ∀ ya ys, (∀ t, t < ns → ya t = F t) → post ((nI ns), (nI nc), (nI mr), (nI jn), (nI ct), fz, B, U, ya, yp, yb, S, C, K, A, D, L, Y, ys, yr, fi)) :
    ∀ d q f fg ya ys, q + d = 17 → d < f → (∀ t, t < ns → rk (tc_kn H t) < q → ya t = F t) → (fg = 0 → ∀ t, t < ns → ya t = F t) → wY_settle_27 post f fg (nI q) (nI ns) (nI nc) (nI mr) (nI jn) (nI ct) fz B U ya yp yb S C K A D L Y ys yr fi := by
  intro d
  induction d with
  | zero =>
    intro q f fg ya ys hq hf h1 h2
    obtain ⟨f, rfl⟩ : ∃ g, f = g + 1 := ⟨f - 1, by omega⟩
    obtain rfl : q = 17 := by omega
    refine br_t (by decide) (hp ya ys (fun t ht => h1 t ht ?_))
    have := hr15 _ (tc_kn_15 (tc_GJ_H hJ) hnc (show t < 12 by omega))
    omega
  | succ d ih =>
    intro q f fg ya ys hq hf h1 h2
    obtain ⟨f, rfl⟩ : ∃ g, f = g + 1 := ⟨f - 1, by omega⟩
    refine br_f (nI_ge (b := 17) (by omega) (by decide)) ?_
    by_cases z : fg = 0
    · exact br_t z (hp ya ys (h2 z))
    · refine br_f z ⟨ns + 1, ?_⟩
      exact yz_in hc hn hnc hR hT hJ hV (by omega) (fun fg ya ys a b => ih (q + 1) f fg ya ys (by omega) (by omega) a b) ns 0 (ns + 1) 0 ya ys (by omega) (by omega) (fun t ht hr => h1 t ht (by omega)) (fun _ t ht => absurd ht (by omega))
theorem yz_zero {post : SY → Prop} {F : Nat → Int32} {rk : Nat → Nat} (hc : ct ≤ 24) (hn : ns ≤ 12) (hnc : nc ≤ 3) (hR : tc_GR ns nc ct K A D) (hT : tc_GT ns ct L Y) (hJ : tc_GJ ns nc jn S C H) (hV : tc_HV ns ct (tc_M S C jn) K A D B U H L Y F rk) (hr15 : ∀ k, k < 15 → rk k < 15)
    (hp : ∀ ya ys, (∀ t, t < ns → ya t = F t) → post ((nI ns), (nI nc), (nI mr), (nI jn), (nI ct), fz, B, U, ya, yp, yb, S, C, K, A, D, L, Y, ys, yr, fi)) :
    ∀ d s f ya, s + d = ns → d < f → wY_settle_2 post (nI ns) (nI nc) (nI mr) (nI jn) (nI ct) fz f (nI s) B U ya yp yb S C K A D L Y ys yr fi := by
  intro d
  induction d with
  | zero =>
    intro s f ya hs hf
    obtain ⟨f, rfl⟩ : ∃ g, f = g + 1 := ⟨f - 1, by omega⟩
    refine br_t (nI_le (by omega) (by omega)) ⟨18, ?_⟩
    exact yz_out hc hn hnc hR hT hJ hV hr15 hp 17 0 18 1 ya ys (by omega) (by omega) (fun t ht hr => absurd hr (by omega)) (fun z => absurd z (by decide))
  | succ d ih =>
    intro s f ya hs hf
    obtain ⟨f, rfl⟩ : ∃ g, f = g + 1 := ⟨f - 1, by omega⟩
    exact br_f (nI_ge (by omega) (by omega)) ⟨vp_in_nI (by omega) (by decide), nm_e (nm_r (nI_1 s) (ih (s + 1) f _ (by omega) (by omega)))⟩
theorem yz_settle {post : SY → Prop} {F : Nat → Int32} {rk : Nat → Nat} (hc : ct ≤ 24) (hn : ns ≤ 12) (hnc : nc ≤ 3) (hR : tc_GR ns nc ct K A D) (hT : tc_GT ns ct L Y) (hJ : tc_GJ ns nc jn S C H) (hV : tc_HV ns ct (tc_M S C jn) K A D B U H L Y F rk) (hr15 : ∀ k, k < 15 → rk k < 15)
    (hp : ∀ ya ys, (∀ t, t < ns → ya t = F t) → post ((nI ns), (nI nc), (nI mr), (nI jn), (nI ct), fz, B, U, ya, yp, yb, S, C, K, A, D, L, Y, ys, yr, fi)) : wpY_settle post ((nI ns), (nI nc), (nI mr), (nI jn), (nI ct), fz, B, U, ya, yp, yb, S, C, K, A, D, L, Y, ys, yr, fi) :=
  Exists.intro (ns + 1) (yz_zero hc hn hnc hR hT hJ hV hr15 hp ns 0 (ns + 1) ya (by omega) (by omega))
end
end
section
/-! the reference's equations at the component's values -/
def tc_SM (ct : Nat) (R T L Y : Nat → Int32) : Prop := ∀ r, r < ct → L r = R r ∧ ∀ i, i < (R r).toNatClampNeg → Y (8 * r + i) = T (8 * r + i)
section
variable {ns nc mr ct jn pn hn fn : Nat} {pl ph dp oc fl fz : Int32}
variable {B H U lo up fa va me mt mo wi K A D R co T sk ne od su sv fi ya yp yb S C L Y ys yr : Nat → Int32}
theorem tc_SM_T (h : tc_SM ct R T L Y) (hT : tc_GT ns ct R T) : tc_GT ns ct L Y := by
  intro r hr
  obtain ⟨n, h8, er, hg⟩ := hT r hr
  obtain ⟨e1, e2⟩ := h r hr
  rw [er, nI_clamp (by omega)] at e2
  exact ⟨n, h8, e1.trans er, tc_gs_c (fun q hq => (e2 q hq).symm) hg⟩
theorem tc_SM_ms (h : tc_SM ct R T L Y) {r t : Nat} (hr : r < ct) : tc_ms K A R T r t ↔ tc_ms K A L Y r t := by
  obtain ⟨e1, e2⟩ := h r hr
  unfold tc_ms
  rw [e1]
  constructor
  · rintro (z | ⟨q, hq, z⟩)
    · exact Or.inl z
    · exact Or.inr ⟨q, hq, (e2 q hq).trans z⟩
  · rintro (z | ⟨q, hq, z⟩)
    · exact Or.inl z
    · exact Or.inr ⟨q, hq, (e2 q hq).symm.trans z⟩
theorem tc_SM_rk (h : tc_SM ct R T L Y) {rk : Nat → Nat} : tc_RK ns ct K A D H R T rk ↔ tc_RK ns ct K A D H L Y rk := by
  unfold tc_RK
  constructor
  · rintro ⟨a, b⟩
    exact ⟨a, fun r t hr ht m => b r t hr ht ((tc_SM_ms h hr).mpr m)⟩
  · rintro ⟨a, b⟩
    exact ⟨a, fun r t hr ht m => b r t hr ht ((tc_SM_ms h hr).mp m)⟩
theorem tc_cv_s {y : Nat → Int32} {r : Nat} (hn : ns ≤ 12) (hT : tc_GT ns ct R T) (hS : tc_SM ct R T L Y) (hr : r < ct) (hv : ∀ t, t < ns → tc_ms K A R T r t → y t = va t) : tc_cv L Y y r = tc_cv R T va r := by
  obtain ⟨n, h8, er, hg⟩ := hT r hr
  obtain ⟨e1, e2⟩ := hS r hr
  have en : (R r).toNatClampNeg = n := by rw [er]; exact nI_clamp (by omega)
  unfold tc_cv
  rw [e1, en]
  rw [en] at e2
  exact (tc_ev_c hn hg (fun q hq => (e2 q hq).symm) (fun q j hq hj z => (hv j hj (Or.inr ⟨q, by rw [en]; exact hq, z⟩)).symm)).symm
/-- at a settled knot, values right below it give the right values -/
theorem tc_brs {M : Nat → List Nat} {y : Nat → Int32} {k : Nat} (hn : ns ≤ 12) (hnc : nc ≤ 3) (hR : tc_GR ns nc ct K A D) (hH : tc_GH nc H) (hT : tc_GT ns ct R T) (hM : tc_MM M H) (hS : tc_SM ct R T L Y)
    (h : tc_Se ct M K A D B U H R T co va lo up fa mo wi k) (hv : ∀ r t, r < ct → t < ns → tc_sj K A D H r = k → tc_ms K A R T r t → y t = va t) :
    (∀ c, c < 3 → 12 + c = k → tc_yw ct K A D B U H (tc_cv L Y y) y (M c) (nI c) = wi c) ∧
    (∀ s, s < 12 → tc_kn H s = k → tc_Lo ct K D A B (tc_cv L Y y) y s = lo s ∧ tc_yu ct K A B H (tc_cv L Y y) s = up s ∧ tc_yv ct M K A D B U H (tc_cv L Y y) y s = va s) := by
  obtain ⟨h1, h2, h3⟩ := h
  have hc : ∀ r, r < ct → tc_sj K A D H r = k → tc_cv L Y y r = co r := fun r hr e => by
    rw [h1 r hr e]
    exact tc_cv_s hn hT hS hr (fun t ht m => hv r t hr ht e m)
  have hv2 : ∀ r, r < ct → tc_sj K A D H r = k → K r = 2 ∨ K r = 3 → y (A r).toNatClampNeg = va (A r).toNatClampNeg := fun r hr e h23 => tc_va_c hn hR hr (fun t ht m => hv r t hr ht e m) h23
  have key : ∀ s, s < 12 → tc_kn H s = k → tc_Lo ct K D A B (tc_cv L Y y) y s = lo s ∧ tc_yu ct K A B H (tc_cv L Y y) s = up s ∧ tc_yf ct K A D B H (tc_cv L Y y) y s = fa s ∧ tc_ym ct K A H (tc_cv L Y y) s = tc_md H mo s := by
    intro s hs e
    obtain ⟨g1, g2, g3, g4⟩ := tc_cgr (B := B) hH hnc hs e hc hv2
    obtain ⟨a1, a2, a3, a4⟩ := h3 s hs e
    have em : tc_ym ct K A H (tc_cv L Y y) s = tc_md H mo s := by
      unfold tc_ym tc_md
      rcases hH s hs with z | ⟨c, hcc, z⟩
      · rw [if_pos (by rw [z]; exact tc_m1), if_pos (by rw [z]; exact tc_m1)]
      · have hpos : ¬ H s < 0 := by rw [z]; exact nI_pos (by omega)
        rw [if_neg hpos, if_neg hpos, g4 hpos, z, nI_clamp (by omega)]
        exact (h2 c (by omega) ((tc_kn_c z (by omega)).symm.trans e)).1.symm
    have eu : tc_yu ct K A B H (tc_cv L Y y) s = up s := by
      unfold tc_yu
      rw [em, g2, a2]
    refine ⟨g1.trans a1.symm, eu, ?_, em⟩
    unfold tc_yf
    rw [eu, g3, a3]
  have keyc : ∀ c, c < 3 → 12 + c = k → tc_yw ct K A D B U H (tc_cv L Y y) y (M c) (nI c) = wi c := by
    intro c hc3 e
    obtain ⟨b1, b2⟩ := h2 c hc3 e
    unfold tc_yw
    rw [tc_cgm (D := D) (H := H) (by omega) e hc, ← b1, b2]
    exact tc_Wi_c (fun m hm => by
      obtain ⟨c1, c2⟩ := hM c hc3 m hm
      obtain ⟨d1, d2, d3, -⟩ := key m c1 ((tc_kn_c c2 (by omega)).trans e)
      exact ⟨d1, d2, d3⟩)
  refine ⟨keyc, fun s hs e => ?_⟩
  obtain ⟨d1, d2, d3, d4⟩ := key s hs e
  obtain ⟨a1, a2, a3, a4⟩ := h3 s hs e
  refine ⟨d1, d2, ?_⟩
  rw [a4]
  unfold tc_yv
  rw [d1, d2, d3, d4]
  unfold tc_Va
  by_cases z : H s < 0
  · rw [if_pos z, if_pos z]
  · rw [if_neg z, if_neg z]
    rcases hH s hs with w | ⟨c, hcc, w⟩
    · rw [w] at z; exact absurd tc_m1 z
    · rw [w, nI_clamp (by omega), keyc c (by omega) ((tc_kn_c w (by omega)).symm.trans e)]
theorem tc_HV_i {M : Nat → List Nat} {rk : Nat → Nat} (hn : ns ≤ 12) (hnc : nc ≤ 3) (hR : tc_GR ns nc ct K A D) (hH : tc_GH nc H) (hT : tc_GT ns ct R T) (hM : tc_MM M H) (hS : tc_SM ct R T L Y) (hrk : tc_RK ns ct K A D H R T rk)
    (h : ∀ k, k < 15 → tc_Se ct M K A D B U H R T co va lo up fa mo wi k) : tc_HV ns ct M K A D B U H L Y va rk := by
  intro y s hs hy
  have h15 := tc_kn_15 hH hnc (show s < 12 by omega)
  exact ((tc_brs hn hnc hR hH hT hM hS (h _ h15) (fun r t hr ht e m => hy t ht (by
    have := hrk.2 r t hr ht m
    rw [e] at this
    exact this))).2 s (by omega) rfl).2.2
end
end
section
/-! the reference looks for recursion -/
def tc_01 (yr : Nat → Int32) : Prop := ∀ j, j < 15 → yr j = 0 ∨ yr j = 1
/-- a set that holds what is needed by its knots and by st -/
def tc_Cl (ns ct : Nat) (K A D H L Y : Nat → Int32) (st : Nat) (Q : Nat → Prop) : Prop := ∀ r t, r < ct → t < ns → (tc_sj K A D H r = st ∨ Q (tc_sj K A D H r)) → tc_ms K A L Y r t → Q (tc_kn H t)
theorem tc_nb1 : vp_nar .boolean 1 = 1 := rfl
theorem tc_nb0 : vp_nar .boolean 0 = 0 := rfl
section
variable {ns nc mr ct jn pn hn fn : Nat} {pl ph dp oc fl fz : Int32}
variable {B H U lo up fa va me mt mo wi K A D R co T sk ne od su sv fi ya yp yb S C L Y ys yr : Nat → Int32}
theorem yk_kn {post : Int32 → Prop} {s : Nat} {p : Int32} (hnc : nc ≤ 3) (hJ : tc_GJ ns nc jn S C H) (hs : s < 12) (ep : p = nI s) (hp : post (nI (tc_kn H s))) : wpY_knot post ((nI ns), (nI nc), (nI mr), (nI jn), (nI ct), fz, B, U, ya, yp, yb, S, C, K, A, D, L, Y, ys, yr, fi) p := by
  subst ep
  unfold wpY_knot
  refine yj_ch hJ hs ?_
  rcases tc_GJ_H hJ s hs with z | ⟨c, hcc, z⟩
  · have z' : H s < 0 := by rw [z]; exact tc_m1
    rw [tc_kn_n z'] at hp
    exact br_f (Int32.not_le.mpr z') hp
  · rw [tc_kn_c z (by omega)] at hp
    rw [z]
    refine br_t (nI_pos' (by omega)) ?_
    rw [show (12 : Int32) + nI c = nI (12 + c) from nI_add 12 c]
    exact hp
theorem yk_sj {post : Int32 → Prop} {r : Nat} (hc : ct ≤ 24) (hn : ns ≤ 12) (hnc : nc ≤ 3) (hJ : tc_GJ ns nc jn S C H) (hR : tc_GR ns nc ct K A D) (hr : r < ct) (hp : post (nI (tc_sj K A D H r))) : wpY_subject post ((nI ns), (nI nc), (nI mr), (nI jn), (nI ct), fz, B, U, ya, yp, yb, S, C, K, A, D, L, Y, ys, yr, fi) (nI r) := by
  have e : (nI r).toNatClampNeg = r := nI_clamp (by omega)
  have hi : vp_in (nI r) 25 := vp_in_nI (by omega) (by decide)
  refine And.intro hi ?_
  rw [e]
  rcases hR r hr with ⟨h4, a, h1, ea⟩ | ⟨h0, a, h1, ea⟩ | ⟨h2, -, b, h1, eb⟩
  · rw [tc_sj_4 h4 ea (by omega)] at hp
    refine br_t h4 ⟨hi, ?_⟩
    rw [ea, show (12 : Int32) + nI a = nI (12 + a) from nI_add 12 a]
    exact hp
  · rw [tc_sj_a h0 ea (by omega)] at hp
    have n4 : ¬ K r = 4 := by rcases h0 with h | h <;> rw [h] <;> decide
    have n2 : ¬ K r = 2 := by rcases h0 with h | h <;> rw [h] <;> decide
    have n3 : ¬ K r = 3 := by rcases h0 with h | h <;> rw [h] <;> decide
    refine br_f n4 ⟨hi, br_f n2 ⟨hi, br_f n3 ⟨hi, ?_⟩⟩⟩
    exact yk_kn hnc hJ (by omega) ea hp
  · rcases h2 with h2 | h2
    · rw [tc_sj_2 h2 eb (by omega)] at hp
      refine br_f (by rw [h2]; decide) ⟨hi, br_t h2 ?_⟩
      unfold wY_subject_41
      rw [e]
      exact ⟨hi, yk_kn hnc hJ (by omega) eb hp⟩
    · rw [tc_sj_3 h2 eb (by omega)] at hp
      refine br_f (by rw [h2]; decide) ⟨hi, br_f (by rw [h2]; decide) ⟨hi, br_t h2 ?_⟩⟩
      unfold wY_subject_41
      rw [e]
      exact ⟨hi, yk_kn hnc hJ (by omega) eb hp⟩
theorem ym_lp {post : SY → Prop} {r n : Nat} {yr0 : Nat → Int32} (hn : ns ≤ 12) (hnc : nc ≤ 3) (hJ : tc_GJ ns nc jn S C H) (hr : r < 25) (h8 : n ≤ 8) (er : L r = nI n) (hg : tc_gs ns Y (8 * r) n)
    (hp : ∀ yr, tc_01 yr → (∀ j, j < 15 → (yr j = 1 ↔ yr0 j = 1 ∨ tc_mp ns K A H Y r n j)) → post ((nI ns), (nI nc), (nI mr), (nI jn), (nI ct), fz, B, U, ya, yp, yb, S, C, K, A, D, L, Y, ys, yr, fi)) :
    ∀ d i f yr, i + d = n → d < f → tc_01 yr → (∀ j, j < 15 → (yr j = 1 ↔ yr0 j = 1 ∨ tc_mp ns K A H Y r i j)) → wY_markMentions_40 post (nI r) (nI ns) (nI nc) (nI mr) (nI jn) (nI ct) fz f (nI i) B U ya yp yb S C K A D L Y ys yr fi := by
  have e : (nI r).toNatClampNeg = r := nI_clamp (by omega)
  have hi : vp_in (nI r) 25 := vp_in_nI hr (by decide)
  intro d
  induction d with
  | zero =>
    intro i f yr hd hf h01 hm
    obtain ⟨f, rfl⟩ : ∃ g, f = g + 1 := ⟨f - 1, by omega⟩
    obtain rfl : i = n := by omega
    refine ⟨hi, br_t ?_ (hp yr h01 hm)⟩
    rw [e, er]; exact nI_le (Nat.le_refl _) (by omega)
  | succ d ih =>
    intro i f yr hd hf h01 hm
    obtain ⟨f, rfl⟩ : ∃ g, f = g + 1 := ⟨f - 1, by omega⟩
    have et : Y (nI r * (8 : Int32) + nI i).toNatClampNeg = Y (8 * r + i) := tc_cg (pk_cl (8 * r + i) (tc_i8' r i))
    refine ⟨hi, br_f ?_ ⟨pk_in (8 * r + i) 200 (by omega) (tc_i8' r i), nm_r et ?_⟩⟩
    · rw [e, er]; exact nI_ge (by omega) (by omega)
    by_cases hs : ∃ t, t < ns ∧ Y (8 * r + i) = nI t
    · obtain ⟨t, ht, ett⟩ := hs
      have h15 := tc_kn_15 (tc_GJ_H hJ) hnc (show t < 12 by omega)
      have ek : (nI (tc_kn H t)).toNatClampNeg = tc_kn H t := nI_clamp (by omega)
      rw [ett]
      refine br_f (tc_20 (by omega)) (yk_kn hnc hJ (show t < 12 by omega) rfl ⟨vp_in_nI h15 (by decide), ?_⟩)
      rw [ek, tc_nb1]
      refine nm_e (nm_r (nI_1 i) (ih (i + 1) f _ (by omega) (by omega) (fun j hj => ?_) (fun j hj => ?_)))
      · by_cases z : j = tc_kn H t
        · rw [z, pk_us]; exact Or.inr rfl
        · rw [pk_un z]; exact h01 j hj
      · by_cases z : j = tc_kn H t
        · rw [z, pk_us]
          exact ⟨fun _ => Or.inr (Or.inr ⟨i, by omega, t, ht, ett, rfl⟩), fun _ => rfl⟩
        · rw [pk_un z, hm j hj]
          constructor
          · rintro (x | x | ⟨q, hq, x⟩)
            · exact Or.inl x
            · exact Or.inr (Or.inl x)
            · exact Or.inr (Or.inr ⟨q, by omega, x⟩)
          · rintro (x | x | ⟨q, hq, t', ht', e1, e2⟩)
            · exact Or.inl x
            · exact Or.inr (Or.inl x)
            · by_cases y : q = i
              · subst y
                obtain rfl : t' = t := (nI_eq (by omega) (by omega)).mp (e1.symm.trans ett)
                exact absurd e2.symm z
              · exact Or.inr (Or.inr ⟨q, by omega, t', ht', e1, e2⟩)
    · have hge : (20 : Int32) ≤ Y (8 * r + i) := by
        rcases hg i (by omega) with ⟨j, hj, z⟩ | ⟨j, h1, h2, z⟩ | ⟨z, -⟩ | ⟨j, h1, h2, z, -⟩
        · exact absurd ⟨j, hj, z⟩ hs
        · rw [z]; exact tc_20' h1 (by omega)
        · rw [z]; decide
        · rw [z]; exact tc_20' (by omega) (by omega)
      refine br_t hge (nm_r (nI_1 i) (ih (i + 1) f yr (by omega) (by omega) h01 (fun j hj => ?_)))
      rw [hm j hj]
      constructor
      · rintro (x | x | ⟨q, hq, x⟩)
        · exact Or.inl x
        · exact Or.inr (Or.inl x)
        · exact Or.inr (Or.inr ⟨q, by omega, x⟩)
      · rintro (x | x | ⟨q, hq, t', ht', e1, e2⟩)
        · exact Or.inl x
        · exact Or.inr (Or.inl x)
        · by_cases y : q = i
          · subst y; exact absurd ⟨t', ht', e1⟩ hs
          · exact Or.inr (Or.inr ⟨q, by omega, t', ht', e1, e2⟩)
theorem ym_mark {post : SY → Prop} {r : Nat} (hc : ct ≤ 24) (hn : ns ≤ 12) (hnc : nc ≤ 3) (hJ : tc_GJ ns nc jn S C H) (hR : tc_GR ns nc ct K A D) (hT : tc_GT ns ct L Y) (hr : r < ct) (h01 : tc_01 yr)
    (hp : ∀ yr', tc_01 yr' → (∀ j, j < 15 → (yr' j = 1 ↔ yr j = 1 ∨ ∃ t, t < ns ∧ tc_ms K A L Y r t ∧ tc_kn H t = j)) → post ((nI ns), (nI nc), (nI mr), (nI jn), (nI ct), fz, B, U, ya, yp, yb, S, C, K, A, D, L, Y, ys, yr', fi)) : wpY_markMentions post ((nI ns), (nI nc), (nI mr), (nI jn), (nI ct), fz, B, U, ya, yp, yb, S, C, K, A, D, L, Y, ys, yr, fi) (nI r) := by
  have e : (nI r).toNatClampNeg = r := nI_clamp (by omega)
  have hi : vp_in (nI r) 25 := vp_in_nI (by omega) (by decide)
  obtain ⟨n, h8, er, hg⟩ := hT r hr
  have en : (L r).toNatClampNeg = n := by rw [er]; exact nI_clamp (by omega)
  have hp' : ∀ yr', tc_01 yr' → (∀ j, j < 15 → (yr' j = 1 ↔ yr j = 1 ∨ tc_mp ns K A H Y r n j)) → post ((nI ns), (nI nc), (nI mr), (nI jn), (nI ct), fz, B, U, ya, yp, yb, S, C, K, A, D, L, Y, ys, yr', fi) := by
    intro yr' h01' hm
    refine hp yr' h01' (fun j hj => ?_)
    rw [hm j hj]
    unfold tc_mp tc_ms
    rw [en]
    constructor
    · rintro (x | ⟨z, t, ht, e1, e2⟩ | ⟨q, hq, t, ht, e1, e2⟩)
      · exact Or.inl x
      · exact Or.inr ⟨t, ht, Or.inl ⟨z, e1⟩, e2⟩
      · exact Or.inr ⟨t, ht, Or.inr ⟨q, hq, e1⟩, e2⟩
    · rintro (x | ⟨t, ht, (⟨z, e1⟩ | ⟨q, hq, e1⟩), e2⟩)
      · exact Or.inl x
      · exact Or.inr (Or.inl ⟨z, t, ht, e1, e2⟩)
      · exact Or.inr (Or.inr ⟨q, hq, t, ht, e1, e2⟩)
  have h20 : K r = 2 ∨ K r = 3 → wY_markMentions_20 post (nI r) (nI ns) (nI nc) (nI mr) (nI jn) (nI ct) fz B U ya yp yb S C K A D L Y ys yr fi := by
    intro h23
    rcases hR r hr with ⟨h4, -⟩ | ⟨h0, -⟩ | ⟨-, ⟨a, ha, ea⟩, -⟩
    · rcases h23 with h2 | h2 <;> exact absurd (h4.symm.trans h2) (by decide)
    · rcases h23 with h2 | h2 <;> rcases h0 with h0 | h0 <;> exact absurd (h0.symm.trans h2) (by decide)
    · have h15 := tc_kn_15 (tc_GJ_H hJ) hnc (show a < 12 by omega)
      have ek : (nI (tc_kn H a)).toNatClampNeg = tc_kn H a := nI_clamp (by omega)
      unfold wY_markMentions_20
      rw [e]
      refine ⟨hi, yk_kn hnc hJ (show a < 12 by omega) ea ⟨vp_in_nI h15 (by decide), ?_⟩⟩
      rw [ek, tc_nb1]
      refine nm_e ⟨n + 1, ym_lp hn hnc hJ (by omega) h8 er hg hp' n 0 (n + 1) _ (by omega) (by omega) (fun j hj => ?_) (fun j hj => ?_)⟩
      · by_cases z : j = tc_kn H a
        · rw [z, pk_us]; exact Or.inr rfl
        · rw [pk_un z]; exact h01 j hj
      · by_cases z : j = tc_kn H a
        · rw [z, pk_us]
          exact ⟨fun _ => Or.inr (Or.inl ⟨h23, a, ha, ea, rfl⟩), fun _ => rfl⟩
        · rw [pk_un z]
          constructor
          · intro x; exact Or.inl x
          · rintro (x | ⟨-, t, ht, e1, e2⟩ | ⟨q, hq, -⟩)
            · exact x
            · obtain rfl : t = a := (nI_eq (by omega) (by omega)).mp (e1.symm.trans ea)
              exact absurd e2.symm z
            · omega
  refine And.intro hi ?_
  rw [e]
  by_cases h2 : K r = 2
  · exact br_t h2 (h20 (Or.inl h2))
  · refine br_f h2 ⟨hi, ?_⟩
    by_cases h3 : K r = 3
    · exact br_t h3 (h20 (Or.inr h3))
    · refine br_f h3 ⟨n + 1, ym_lp hn hnc hJ (by omega) h8 er hg hp' n 0 (n + 1) yr (by omega) (by omega) h01 (fun j hj => ?_)⟩
      constructor
      · intro x; exact Or.inl x
      · rintro (x | ⟨z, -⟩ | ⟨q, hq, -⟩)
        · exact x
        · rcases z with z | z
          · exact absurd z h2
          · exact absurd z h3
        · omega
/-- one round over the rules -/
theorem yq_in {post : Int32 → SY → Prop} {J : Int32 → Int32 → Int32 → Int32 → Int32 → Int32 → Int32 → (Nat → Int32) → (Nat → Int32) → (Nat → Int32) → (Nat → Int32) → (Nat → Int32) → (Nat → Int32) → (Nat → Int32) → (Nat → Int32) → (Nat → Int32) → (Nat → Int32) → (Nat → Int32) → (Nat → Int32) → (Nat → Int32) → (Nat → Int32) → (Nat → Int32) → Prop} {st q : Nat} {yr0 : Nat → Int32} (hc : ct ≤ 24) (hn : ns ≤ 12) (hnc : nc ≤ 3) (hJ : tc_GJ ns nc jn S C H) (hR : tc_GR ns nc ct K A D) (hT : tc_GT ns ct L Y) (hst : st < 15)
    (hp : ∀ yr, tc_01 yr → (∀ j, j < 15 → yr0 j = 1 → yr j = 1) → (∀ r t, r < ct → t < ns → (tc_sj K A D H r = st ∨ yr0 (tc_sj K A D H r) = 1) → tc_ms K A L Y r t → yr (tc_kn H t) = 1) →
      (∀ Q, tc_Cl ns ct K A D H L Y st Q → (∀ j, j < 15 → yr0 j = 1 → Q j) → ∀ j, j < 15 → yr j = 1 → Q j) → J (nI (q + 1)) (nI ns) (nI nc) (nI mr) (nI jn) (nI ct) fz B U ya yp yb S C K A D L Y ys yr fi) :
    ∀ d r f yr, r + d = ct → d < f → tc_01 yr → (∀ j, j < 15 → yr0 j = 1 → yr j = 1) → (∀ r' t, r' < r → t < ns → (tc_sj K A D H r' = st ∨ yr0 (tc_sj K A D H r') = 1) → tc_ms K A L Y r' t → yr (tc_kn H t) = 1) →
      (∀ Q, tc_Cl ns ct K A D H L Y st Q → (∀ j, j < 15 → yr0 j = 1 → Q j) → ∀ j, j < 15 → yr j = 1 → Q j) → wY_comesBack_31 post J (nI st) (nI q) f (nI r) (nI ns) (nI nc) (nI mr) (nI jn) (nI ct) fz B U ya yp yb S C K A D L Y ys yr fi := by
  intro d
  induction d with
  | zero =>
    intro r f yr hd hf h01 h1 h2 h3
    obtain ⟨f, rfl⟩ : ∃ g, f = g + 1 := ⟨f - 1, by omega⟩
    obtain rfl : r = ct := by omega
    exact br_t (nI_le (Nat.le_refl _) (by omega)) (nm_r (nI_1 q) (hp yr h01 h1 h2 h3))
  | succ d ih =>
    intro r f yr hd hf h01 h1 h2 h3
    obtain ⟨f, rfl⟩ : ∃ g, f = g + 1 := ⟨f - 1, by omega⟩
    have h15 := tc_sj_15 hR (tc_GJ_H hJ) hn hnc (show r < ct by omega)
    have es : (nI (tc_sj K A D H r)).toNatClampNeg = tc_sj K A D H r := nI_clamp (by omega)
    have hgo : (tc_sj K A D H r = st ∨ yr (tc_sj K A D H r) = 1) → wY_comesBack_62 post J (wY_comesBack_31 post J (nI st) (nI q) f) (nI st) (nI q) (nI r) (nI ns) (nI nc) (nI mr) (nI jn) (nI ct) fz B U ya yp yb S C K A D L Y ys yr fi := by
      intro hgo
      unfold wY_comesBack_62
      refine ym_mark hc hn hnc hJ hR hT (by omega) h01 (fun yr' h01' hm => nm_r (nI_1 r) (ih (r + 1) f yr' (by omega) (by omega) h01' (fun j hj z => (hm j hj).mpr (Or.inl (h1 j hj z))) (fun r' t hr' ht x m => ?_) (fun Q hQ hQ0 j hj z => ?_)))
      · have hk15 := tc_kn_15 (tc_GJ_H hJ) hnc (show t < 12 by omega)
        by_cases w : r' = r
        · subst w
          exact (hm _ hk15).mpr (Or.inr ⟨t, ht, m, rfl⟩)
        · exact (hm _ hk15).mpr (Or.inl (h2 r' t (by omega) ht x m))
      · rcases (hm j hj).mp z with z | ⟨t, ht, m, e⟩
        · exact h3 Q hQ hQ0 j hj z
        · rw [← e]
          refine hQ r t (by omega) ht ?_ m
          rcases hgo with y | y
          · exact Or.inl y
          · exact Or.inr (h3 Q hQ hQ0 _ h15 y)
    refine br_f (nI_ge (by omega) (by omega)) (yk_sj hc hn hnc hJ hR (by omega) ?_)
    by_cases z : tc_sj K A D H r = st
    · exact br_t (by rw [z]) (hgo (Or.inl z))
    · refine br_f (fun y => z ((nI_eq (by omega) (by omega)).mp y)) ⟨vp_in_nI h15 (by decide), ?_⟩
      rw [es]
      rcases h01 _ h15 with y | y
      · refine br_t y (nm_r (nI_1 r) (ih (r + 1) f yr (by omega) (by omega) h01 h1 (fun r' t hr' ht x m => ?_) h3))
        by_cases w : r' = r
        · subst w
          rcases x with x | x
          · exact absurd x z
          · rw [h1 _ h15 x] at y; exact absurd y (by decide)
        · exact h2 r' t (by omega) ht x m
      · exact br_f (by rw [y]; decide) (hgo (Or.inr y))
theorem yq_out {post : Int32 → SY → Prop} {st : Nat} (hc : ct ≤ 24) (hn : ns ≤ 12) (hnc : nc ≤ 3) (hJ : tc_GJ ns nc jn S C H) (hR : tc_GR ns nc ct K A D) (hT : tc_GT ns ct L Y) (hst : st < 15)
    (hp : ∀ yr, tc_01 yr → tc_Cl ns ct K A D H L Y st (fun j => yr j = 1) → (∀ Q, tc_Cl ns ct K A D H L Y st Q → ∀ j, j < 15 → yr j = 1 → Q j) → post (yr st) ((nI ns), (nI nc), (nI mr), (nI jn), (nI ct), fz, B, U, ya, yp, yb, S, C, K, A, D, L, Y, ys, yr, fi)) :
    ∀ d q f yr, q + d = 16 → d < f → tc_01 yr → (∀ Q, tc_Cl ns ct K A D H L Y st Q → ∀ j, j < 15 → yr j = 1 → Q j) → (tc_Cl ns ct K A D H L Y st (fun j => yr j = 1) ∨ q ≤ tc_cn (fun j => decide (yr j = 1)) 15) → wY_comesBack_23 post (nI st) f (nI q) (nI ns) (nI nc) (nI mr) (nI jn) (nI ct) fz B U ya yp yb S C K A D L Y ys yr fi := by
  intro d
  induction d with
  | zero =>
    intro q f yr hd hf h01 h1 h2
    obtain ⟨f, rfl⟩ : ∃ g, f = g + 1 := ⟨f - 1, by omega⟩
    obtain rfl : q = 16 := by omega
    have hcl : tc_Cl ns ct K A D H L Y st (fun j => yr j = 1) := by
      rcases h2 with z | z
      · exact z
      · have := tc_cn_le (fun j => decide (yr j = 1)) 15
        omega
    have es : (nI st).toNatClampNeg = st := nI_clamp (by omega)
    refine br_t (by decide) ⟨vp_in_nI hst (by decide), ?_⟩
    rw [es]
    refine ⟨?_, hp yr h01 hcl h1⟩
    rcases h01 st hst with z | z <;> rw [z] <;> rfl
  | succ d ih =>
    intro q f yr hd hf h01 h1 h2
    obtain ⟨f, rfl⟩ : ∃ g, f = g + 1 := ⟨f - 1, by omega⟩
    refine br_f (nI_ge (b := 16) (by omega) (by decide)) ⟨ct + 1, ?_⟩
    refine yq_in (yr0 := yr) hc hn hnc hJ hR hT hst (fun yr' h01' a1 a2 a3 => ih (q + 1) f yr' (by omega) (by omega) h01' (fun Q hQ => a3 Q hQ (h1 Q hQ)) ?_) ct 0 (ct + 1) yr (by omega) (by omega) h01 (fun _ _ z => z) (fun r' t hr' => absurd hr' (by omega)) (fun Q _ h => h)
    by_cases hcl : tc_Cl ns ct K A D H L Y st (fun j => yr j = 1)
    · left
      intro r t hr ht x m
      exact a2 r t hr ht (by
        rcases x with x | x
        · exact Or.inl x
        · exact Or.inr (a3 _ hcl (fun _ _ z => z) _ (tc_sj_15 hR (tc_GJ_H hJ) hn hnc hr) x)) m
    · right
      have hq : q ≤ tc_cn (fun j => decide (yr j = 1)) 15 := by
        rcases h2 with z | z
        · exact absurd z hcl
        · exact z
      by_cases hex : ∃ j, j < 15 ∧ yr' j = 1 ∧ ¬ yr j = 1
      · obtain ⟨j, hj, b1, b2⟩ := hex
        have := tc_cn_lt (P := fun j => decide (yr j = 1)) (Q := fun j => decide (yr' j = 1)) (a := j) (decide_eq_false b2) (decide_eq_true b1) 15 (fun k hk z => decide_eq_true (a1 k hk (of_decide_eq_true z))) hj
        omega
      · refine absurd (fun r t hr ht x m => ?_) hcl
        have hk15 := tc_kn_15 (tc_GJ_H hJ) hnc (show t < 12 by omega)
        have := a2 r t hr ht x m
        by_cases w : yr (tc_kn H t) = 1
        · exact w
        · exact absurd ⟨_, hk15, this, w⟩ hex
theorem yq_zero {post : Int32 → SY → Prop} {st : Nat} (hc : ct ≤ 24) (hn : ns ≤ 12) (hnc : nc ≤ 3) (hJ : tc_GJ ns nc jn S C H) (hR : tc_GR ns nc ct K A D) (hT : tc_GT ns ct L Y) (hst : st < 15)
    (hp : ∀ yr, tc_01 yr → tc_Cl ns ct K A D H L Y st (fun j => yr j = 1) → (∀ Q, tc_Cl ns ct K A D H L Y st Q → ∀ j, j < 15 → yr j = 1 → Q j) → post (yr st) ((nI ns), (nI nc), (nI mr), (nI jn), (nI ct), fz, B, U, ya, yp, yb, S, C, K, A, D, L, Y, ys, yr, fi)) :
    ∀ d k f yr, k + d = 15 → d < f → (∀ j, j < k → yr j = 0) → wY_comesBack_2 post (nI st) (nI ns) (nI nc) (nI mr) (nI jn) (nI ct) fz f (nI k) B U ya yp yb S C K A D L Y ys yr fi := by
  intro d
  induction d with
  | zero =>
    intro k f yr hd hf h
    obtain ⟨f, rfl⟩ : ∃ g, f = g + 1 := ⟨f - 1, by omega⟩
    obtain rfl : k = 15 := by omega
    refine br_t (by decide) ⟨17, ?_⟩
    exact yq_out hc hn hnc hJ hR hT hst hp 16 0 17 yr (by omega) (by omega) (fun j hj => Or.inl (h j hj)) (fun Q _ j hj z => by rw [h j hj] at z; exact absurd z (by decide)) (Or.inr (Nat.zero_le _))
  | succ d ih =>
    intro k f yr hd hf h
    obtain ⟨f, rfl⟩ : ∃ g, f = g + 1 := ⟨f - 1, by omega⟩
    have e : (nI k).toNatClampNeg = k := nI_clamp (by omega)
    refine br_f (nI_ge (b := 15) (by omega) (by decide)) ⟨vp_in_nI (by omega) (by decide), nm_r (e' := upd yr k 0) (by rw [e, tc_nb0]) (nm_r (nI_1 k) (ih (k + 1) f _ (by omega) (by omega) (fun j hj => ?_)))⟩
    by_cases z : j = k
    · rw [z, pk_us]
    · rw [pk_un z]; exact h j (by omega)
theorem yq_back {post : Int32 → SY → Prop} {st : Nat} (hc : ct ≤ 24) (hn : ns ≤ 12) (hnc : nc ≤ 3) (hJ : tc_GJ ns nc jn S C H) (hR : tc_GR ns nc ct K A D) (hT : tc_GT ns ct L Y) (hst : st < 15)
    (hp : ∀ yr, tc_01 yr → tc_Cl ns ct K A D H L Y st (fun j => yr j = 1) → (∀ Q, tc_Cl ns ct K A D H L Y st Q → ∀ j, j < 15 → yr j = 1 → Q j) → post (yr st) ((nI ns), (nI nc), (nI mr), (nI jn), (nI ct), fz, B, U, ya, yp, yb, S, C, K, A, D, L, Y, ys, yr, fi)) : wpY_comesBack post ((nI ns), (nI nc), (nI mr), (nI jn), (nI ct), fz, B, U, ya, yp, yb, S, C, K, A, D, L, Y, ys, yr, fi) (nI st) :=
  Exists.intro 16 (yq_zero hc hn hnc hJ hR hT hst hp 15 0 16 yr (by omega) (by omega) (fun j hj => absurd hj (by omega)))
def tc_Wd (ns ct : Nat) (K A D H L Y : Nat → Int32) (k : Nat) (P : Nat → Bool) : Prop := P k = false ∧ tc_Cl ns ct K A D H L Y k (fun j => P j = true) ∧ ∀ Q, tc_Cl ns ct K A D H L Y k Q → ∀ j, j < 15 → P j = true → Q j
theorem tc_Wd_rk (hn : ns ≤ 12) (hnc : nc ≤ 3) (hH : tc_GH nc H) (hR : tc_GR ns nc ct K A D) (h : ∀ k, k < 15 → ∃ P, tc_Wd ns ct K A D H L Y k P) : ∃ rk, tc_RK ns ct K A D H L Y rk := by
  have h' : ∀ k, ∃ P : Nat → Bool, k < 15 → tc_Wd ns ct K A D H L Y k P := by
    intro k
    by_cases hk : k < 15
    · obtain ⟨P, hP⟩ := h k hk
      exact ⟨P, fun _ => hP⟩
    · exact ⟨fun _ => false, fun z => absurd z hk⟩
  obtain ⟨W, hW⟩ := Classical.axiomOfChoice h'
  refine ⟨fun k => tc_cn (W k) 15, fun k hk => tc_cn_room (hW k hk).1 hk, fun r t hr ht m => ?_⟩
  have h1 := tc_sj_15 hR hH hn hnc hr
  have h2 := tc_kn_15 hH hnc (show t < 12 by omega)
  obtain ⟨a1, a2, a3⟩ := hW _ h1
  obtain ⟨b1, b2, b3⟩ := hW _ h2
  have hin : W (tc_sj K A D H r) (tc_kn H t) = true := a2 r t hr ht (Or.inl rfl) m
  refine tc_cn_lt b1 hin 15 (fun j hj z => ?_) h2
  refine b3 (fun j => W (tc_sj K A D H r) j = true) (fun r' t' hr' ht' x m' => ?_) j hj z
  refine a2 r' t' hr' ht' (Or.inr ?_) m'
  rcases x with x | x
  · rw [x]; exact hin
  · exact x
theorem yq_rl {post : Int32 → SY → Prop} (hc : ct ≤ 24) (hn : ns ≤ 12) (hnc : nc ≤ 3) (hJ : tc_GJ ns nc jn S C H) (hR : tc_GR ns nc ct K A D) (hT : tc_GT ns ct L Y)
    (h0 : (∃ rk, tc_RK ns ct K A D H L Y rk) → ∀ yr, post 0 ((nI ns), (nI nc), (nI mr), (nI jn), (nI ct), fz, B, U, ya, yp, yb, S, C, K, A, D, L, Y, ys, yr, fi)) (h1 : (¬ ∃ rk, tc_RK ns ct K A D H L Y rk) → ∀ yr, post 1 ((nI ns), (nI nc), (nI mr), (nI jn), (nI ct), fz, B, U, ya, yp, yb, S, C, K, A, D, L, Y, ys, yr, fi)) :
    ∀ d k f yr, k + d = 15 → d < f → (∀ k', k' < k → ∃ P, tc_Wd ns ct K A D H L Y k' P) → wY_recursive_2 post f (nI k) (nI ns) (nI nc) (nI mr) (nI jn) (nI ct) fz B U ya yp yb S C K A D L Y ys yr fi := by
  intro d
  induction d with
  | zero =>
    intro k f yr hd hf h
    obtain ⟨f, rfl⟩ : ∃ g, f = g + 1 := ⟨f - 1, by omega⟩
    obtain rfl : k = 15 := by omega
    exact br_t (by decide) (h0 (tc_Wd_rk hn hnc (tc_GJ_H hJ) hR h) yr)
  | succ d ih =>
    intro k f yr hd hf h
    obtain ⟨f, rfl⟩ : ∃ g, f = g + 1 := ⟨f - 1, by omega⟩
    refine br_f (nI_ge (b := 15) (by omega) (by decide)) (yq_back hc hn hnc hJ hR hT (by omega) (fun yr h01 a1 a2 => ?_))
    rcases h01 k (by omega) with z | z
    · refine br_t z (nm_r (nI_1 k) (ih (k + 1) f yr (by omega) (by omega) (fun k' hk' => ?_)))
      by_cases w : k' = k
      · subst w
        refine ⟨fun j => decide (yr j = 1), decide_eq_false (by rw [z]; decide), fun r t hr ht x m => ?_, fun Q hQ j hj y => a2 Q hQ j hj (of_decide_eq_true y)⟩
        refine decide_eq_true (a1 r t hr ht ?_ m)
        rcases x with x | x
        · exact Or.inl x
        · exact Or.inr (of_decide_eq_true x)
      · exact h k' (by omega)
    · refine br_f (by rw [z]; decide) (h1 ?_ yr)
      rintro ⟨rk, hrk⟩
      have := a2 (fun j => rk j < rk k) (fun r t hr ht x m => ?_) k (by omega) z
      · exact absurd this (Nat.lt_irrefl _)
      · have y := hrk.2 r t hr ht m
        rcases x with x | x
        · rw [x] at y; exact y
        · exact Nat.lt_trans y x
theorem yq_rec {post : Int32 → SY → Prop} (hc : ct ≤ 24) (hn : ns ≤ 12) (hnc : nc ≤ 3) (hJ : tc_GJ ns nc jn S C H) (hR : tc_GR ns nc ct K A D) (hT : tc_GT ns ct L Y)
    (h0 : (∃ rk, tc_RK ns ct K A D H L Y rk) → ∀ yr, post 0 ((nI ns), (nI nc), (nI mr), (nI jn), (nI ct), fz, B, U, ya, yp, yb, S, C, K, A, D, L, Y, ys, yr, fi)) (h1 : (¬ ∃ rk, tc_RK ns ct K A D H L Y rk) → ∀ yr, post 1 ((nI ns), (nI nc), (nI mr), (nI jn), (nI ct), fz, B, U, ya, yp, yb, S, C, K, A, D, L, Y, ys, yr, fi)) : wpY_recursive post ((nI ns), (nI nc), (nI mr), (nI jn), (nI ct), fz, B, U, ya, yp, yb, S, C, K, A, D, L, Y, ys, yr, fi) :=
  Exists.intro 16 (yq_rl hc hn hnc hJ hR hT h0 h1 15 0 16 yr (by omega) (by omega) (fun k hk => absurd hk (by omega)))
end
end
section
/-! the relation -/
def tc_PN (ns ct pn hn : Nat) (T L Y : Nat → Int32) : Prop := pn ≤ 8 ∧ L ct = nI pn ∧ (∀ i, i < pn → Y (8 * ct + i) = T (192 + i)) ∧ tc_gs ns T 192 pn ∧ hn = tc_hg T 192 pn
def tc_Dm (ns nc mr ct fn : Nat) : Prop := 2 ≤ ns ∧ ns ≤ 12 ∧ 1 ≤ nc ∧ nc ≤ 3 ∧ 4 ≤ mr ∧ mr ≤ 24 ∧ ct ≤ mr ∧ fn ≤ 96
def tc_Fx (ns nc mr ct jn pn hn fn : Nat) (B H U lo up fa va me mt mo wi K A D R co T od S C L Y : Nat → Int32) : Prop :=
  tc_Dm ns nc mr ct fn ∧ tc_GR ns nc ct K A D ∧ tc_GT ns ct R T ∧ tc_SM ct R T L Y ∧ tc_GJ ns nc jn S C H ∧ tc_Me me mt (tc_M S C jn) ∧ tc_PN ns ct pn hn T L Y ∧
  (∃ rk, tc_RK ns ct K A D H R T rk ∧ tc_OD od rk) ∧ ∀ k, k < 15 → tc_Se ct (tc_M S C jn) K A D B U H R T co va lo up fa mo wi k
def i_Rel (k : Nat) (u : SX) (v : SY) : Prop := ∃ (ns nc mr ct jn pn hn fn : Nat) (dp : Int32) (B H U lo up fa va me mt mo wi K A D R co T sk ne od su sv fi ya yp yb S C L Y ys yr : Nat → Int32), u = ((nI ns), (nI nc), (nI mr), (nI ct), (nI pn), (nI hn), dp, 15, (nI fn), B, H, U, lo, up, fa, va, me, mt, mo, wi, K, A, D, R, co, T, sk, ne, od, su, sv, fi) ∧ v = ((nI ns), (nI nc), (nI mr), (nI jn), (nI ct), (nI fn), B, U, ya, yp, yb, S, C, K, A, D, L, Y, ys, yr, fi) ∧ tc_Fx ns nc mr ct jn pn hn fn B H U lo up fa va me mt mo wi K A D R co T od S C L Y
theorem i_up {k : Nat} {u : SX} {v : SY} (h : i_Rel k u v) : i_Rel (k + 4) u v := h
theorem zz_in {k : Nat} {ns nc mr ct jn pn hn fn : Nat} {dp : Int32} {B H U lo up fa va me mt mo wi K A D R co T sk ne od su sv fi ya yp yb S C L Y ys yr : Nat → Int32} (h : tc_Fx ns nc mr ct jn pn hn fn B H U lo up fa va me mt mo wi K A D R co T od S C L Y) : i_Rel k ((nI ns), (nI nc), (nI mr), (nI ct), (nI pn), (nI hn), dp, 15, (nI fn), B, H, U, lo, up, fa, va, me, mt, mo, wi, K, A, D, R, co, T, sk, ne, od, su, sv, fi) ((nI ns), (nI nc), (nI mr), (nI jn), (nI ct), (nI fn), B, U, ya, yp, yb, S, C, K, A, D, L, Y, ys, yr, fi) := ⟨ns, nc, mr, ct, jn, pn, hn, fn, dp, B, H, U, lo, up, fa, va, me, mt, mo, wi, K, A, D, R, co, T, sk, ne, od, su, sv, fi, ya, yp, yb, S, C, L, Y, ys, yr, rfl, rfl, h⟩
theorem zz_el {k : Nat} {P : SX → SY → Prop} {u : SX} {v : SY} (h : ∀ (ns nc mr ct jn pn hn fn : Nat) (dp : Int32) (B H U lo up fa va me mt mo wi K A D R co T sk ne od su sv fi ya yp yb S C L Y ys yr : Nat → Int32), tc_Fx ns nc mr ct jn pn hn fn B H U lo up fa va me mt mo wi K A D R co T od S C L Y → P ((nI ns), (nI nc), (nI mr), (nI ct), (nI pn), (nI hn), dp, 15, (nI fn), B, H, U, lo, up, fa, va, me, mt, mo, wi, K, A, D, R, co, T, sk, ne, od, su, sv, fi) ((nI ns), (nI nc), (nI mr), (nI jn), (nI ct), (nI fn), B, U, ya, yp, yb, S, C, K, A, D, L, Y, ys, yr, fi)) (I : i_Rel k u v) : P u v :=
  Exists.elim I fun ns I =>
  Exists.elim I fun nc I =>
  Exists.elim I fun mr I =>
  Exists.elim I fun ct I =>
  Exists.elim I fun jn I =>
  Exists.elim I fun pn I =>
  Exists.elim I fun hn I =>
  Exists.elim I fun fn I =>
  Exists.elim I fun dp I =>
  Exists.elim I fun B I =>
  Exists.elim I fun H I =>
  Exists.elim I fun U I =>
  Exists.elim I fun lo I =>
  Exists.elim I fun up I =>
  Exists.elim I fun fa I =>
  Exists.elim I fun va I =>
  Exists.elim I fun me I =>
  Exists.elim I fun mt I =>
  Exists.elim I fun mo I =>
  Exists.elim I fun wi I =>
  Exists.elim I fun K I =>
  Exists.elim I fun A I =>
  Exists.elim I fun D I =>
  Exists.elim I fun R I =>
  Exists.elim I fun co I =>
  Exists.elim I fun T I =>
  Exists.elim I fun sk I =>
  Exists.elim I fun ne I =>
  Exists.elim I fun od I =>
  Exists.elim I fun su I =>
  Exists.elim I fun sv I =>
  Exists.elim I fun fi I =>
  Exists.elim I fun ya I =>
  Exists.elim I fun yp I =>
  Exists.elim I fun yb I =>
  Exists.elim I fun S I =>
  Exists.elim I fun C I =>
  Exists.elim I fun L I =>
  Exists.elim I fun Y I =>
  Exists.elim I fun ys I =>
  Exists.elim I fun yr I =>
  I.2.1 ▸ I.1 ▸ h ns nc mr ct jn pn hn fn dp B H U lo up fa va me mt mo wi K A D R co T sk ne od su sv fi ya yp yb S C L Y ys yr I.2.2
end
section
/-! what both sides share; the methods that only read -/
section
variable {ns nc mr ct jn pn hn fn : Nat} {pl ph dp oc fl fz : Int32}
variable {B H U lo up fa va me mt mo wi K A D R co T sk ne od su sv fi ya yp yb S C L Y ys yr : Nat → Int32}
theorem xi_sym {post : Int32 → Prop} {p : Int32} (hn : ns ≤ 12) (h1 : ∀ j, j < ns → p = nI j → post 1) (h0 : (¬ ∃ j, j < ns ∧ p = nI j) → post 0) : wpX_isSymbol post ((nI ns), (nI nc), (nI mr), (nI ct), pl, ph, dp, oc, fl, B, H, U, lo, up, fa, va, me, mt, mo, wi, K, A, D, R, co, T, sk, ne, od, su, sv, fi) p := by
  by_cases y : p < 0
  · exact br_t y (h0 (fun ⟨j, hj, e⟩ => nI_pos (n := j) (by omega) (by rw [← e]; exact y)))
  · refine br_f y ?_
    by_cases z : nI ns ≤ p
    · exact br_t z (h0 (fun ⟨j, hj, e⟩ => nI_ge hj (by omega) (by rw [← e]; exact z)))
    · rcases pk_ix p (n := ns) (by omega) with w | w | ⟨j, hj, w⟩
      · exact absurd w y
      · exact absurd w z
      · exact br_f z (h1 j hj w)
theorem xi_cho {post : Int32 → Prop} {p : Int32} (hn : nc ≤ 3) (h1 : ∀ j, j < nc → p = nI j → post 1) (h0 : (¬ ∃ j, j < nc ∧ p = nI j) → post 0) : wpX_isChoice post ((nI ns), (nI nc), (nI mr), (nI ct), pl, ph, dp, oc, fl, B, H, U, lo, up, fa, va, me, mt, mo, wi, K, A, D, R, co, T, sk, ne, od, su, sv, fi) p := by
  by_cases y : p < 0
  · exact br_t y (h0 (fun ⟨j, hj, e⟩ => nI_pos (n := j) (by omega) (by rw [← e]; exact y)))
  · refine br_f y ?_
    by_cases z : nI nc ≤ p
    · exact br_t z (h0 (fun ⟨j, hj, e⟩ => nI_ge hj (by omega) (by rw [← e]; exact z)))
    · rcases pk_ix p (n := nc) (by omega) with w | w | ⟨j, hj, w⟩
      · exact absurd w y
      · exact absurd w z
      · exact br_f z (h1 j hj w)
theorem yi_sym {post : Int32 → Prop} {p : Int32} (hn : ns ≤ 12) (h1 : ∀ j, j < ns → p = nI j → post 1) (h0 : (¬ ∃ j, j < ns ∧ p = nI j) → post 0) : wpY_isSymbol post ((nI ns), (nI nc), (nI mr), (nI jn), (nI ct), fz, B, U, ya, yp, yb, S, C, K, A, D, L, Y, ys, yr, fi) p := by
  by_cases y : p < 0
  · exact br_t y (h0 (fun ⟨j, hj, e⟩ => nI_pos (n := j) (by omega) (by rw [← e]; exact y)))
  · refine br_f y ?_
    by_cases z : nI ns ≤ p
    · exact br_t z (h0 (fun ⟨j, hj, e⟩ => nI_ge hj (by omega) (by rw [← e]; exact z)))
    · rcases pk_ix p (n := ns) (by omega) with w | w | ⟨j, hj, w⟩
      · exact absurd w y
      · exact absurd w z
      · exact br_f z (h1 j hj w)
theorem yi_cho {post : Int32 → Prop} {p : Int32} (hn : nc ≤ 3) (h1 : ∀ j, j < nc → p = nI j → post 1) (h0 : (¬ ∃ j, j < nc ∧ p = nI j) → post 0) : wpY_isChoice post ((nI ns), (nI nc), (nI mr), (nI jn), (nI ct), fz, B, U, ya, yp, yb, S, C, K, A, D, L, Y, ys, yr, fi) p := by
  by_cases y : p < 0
  · exact br_t y (h0 (fun ⟨j, hj, e⟩ => nI_pos (n := j) (by omega) (by rw [← e]; exact y)))
  · refine br_f y ?_
    by_cases z : nI nc ≤ p
    · exact br_t z (h0 (fun ⟨j, hj, e⟩ => nI_ge hj (by omega) (by rw [← e]; exact z)))
    · rcases pk_ix p (n := nc) (by omega) with w | w | ⟨j, hj, w⟩
      · exact absurd w y
      · exact absurd w z
      · exact br_f z (h1 j hj w)
theorem tc_GJ_mem (hJ : tc_GJ ns nc jn S C H) (hn : ns ≤ 12) (hnc : nc ≤ 3) : ∀ c, c < 3 → ∀ s, s < 12 → H s = nI c → s ∈ tc_M S C jn c := by
  intro c hc s hs e
  refine (tc_GJ_m hJ hn hnc (by omega)).mpr ⟨?_, e⟩
  by_cases z : s < ns
  · exact z
  · have := tc_GJ_o hJ hn hs (by omega)
    exact absurd (this.symm.trans e) (fun y => nI_pos (n := c) (by omega) (by rw [← y]; exact tc_m1))
/-- the component settles everything anew -/
theorem zx_rec {post : SX → Prop} {rk : Nat → Nat} (hct : ct ≤ 24) (hn : ns ≤ 12) (hnc : nc ≤ 3) (hR : tc_GR ns nc ct K A D) (hT : tc_GT ns ct R T) (hJ : tc_GJ ns nc jn S C H) (hMe : tc_Me me mt (tc_M S C jn)) (hrk : tc_RK ns ct K A D H R T rk) (hod : tc_OD od rk)
    (hp : ∀ co dp sk lo up fa va mo wi, (∀ k, k < 15 → tc_Se ct (tc_M S C jn) K A D B U H R T co va lo up fa mo wi k) → post ((nI ns), (nI nc), (nI mr), (nI ct), pl, ph, dp, 15, fl, B, H, U, lo, up, fa, va, me, mt, mo, wi, K, A, D, R, co, T, sk, ne, od, su, sv, fi)) : wpX_recompute post ((nI ns), (nI nc), (nI mr), (nI ct), pl, ph, dp, 15, fl, B, H, U, lo, up, fa, va, me, mt, mo, wi, K, A, D, R, co, T, sk, ne, od, su, sv, fi) :=
  xr_rec hct hn hnc (tc_GJ_H hJ) hR hT (tc_GJ_M hJ hn hnc) hMe (tc_GJ_mem hJ hn hnc) hrk hod hp
/-- the reference's settle comes to the component's values -/
theorem zy_set {post : SY → Prop} (hF : tc_Fx ns nc mr ct jn pn hn fn B H U lo up fa va me mt mo wi K A D R co T od S C L Y) (hp : ∀ ya ys, (∀ t, t < ns → ya t = va t) → post ((nI ns), (nI nc), (nI mr), (nI jn), (nI ct), (nI fn), B, U, ya, yp, yb, S, C, K, A, D, L, Y, ys, yr, fi)) : wpY_settle post ((nI ns), (nI nc), (nI mr), (nI jn), (nI ct), (nI fn), B, U, ya, yp, yb, S, C, K, A, D, L, Y, ys, yr, fi) := by
  obtain ⟨⟨-, hn, -, hnc, -, hmr, hct, -⟩, hR, hT, hS, hJ, hMe, hP, ⟨rk, hrk, hod⟩, hSe⟩ := hF
  exact yz_settle (by omega) hn hnc hR (tc_SM_T hS hT) hJ (tc_HV_i hn hnc hR (tc_GJ_H hJ) hT (tc_GJ_M hJ hn hnc) hS hrk hSe) hrk.1 hp
theorem zb_s {y : Nat → Int32} {s : Nat} (hF : tc_Fx ns nc mr ct jn pn hn fn B H U lo up fa va me mt mo wi K A D R co T od S C L Y) (hy : ∀ t, t < ns → y t = va t) (hs : s < ns) : tc_Lo ct K D A B (tc_cv L Y y) y s = lo s ∧ tc_yu ct K A B H (tc_cv L Y y) s = up s := by
  obtain ⟨⟨-, hn, -, hnc, -, hmr, hct, -⟩, hR, hT, hS, hJ, hMe, hP, ⟨rk, hrk, hod⟩, hSe⟩ := hF
  have h15 := tc_kn_15 (tc_GJ_H hJ) hnc (show s < 12 by omega)
  have h := (tc_brs hn hnc hR (tc_GJ_H hJ) hT (tc_GJ_M hJ hn hnc) hS (hSe _ h15) (fun r t hr ht e m => hy t ht)).2 s (by omega) rfl
  exact ⟨h.1, h.2.1⟩
theorem zb_c {y : Nat → Int32} {c : Nat} (hF : tc_Fx ns nc mr ct jn pn hn fn B H U lo up fa va me mt mo wi K A D R co T od S C L Y) (hy : ∀ t, t < ns → y t = va t) (hc : c < 3) : tc_yw ct K A D B U H (tc_cv L Y y) y (tc_M S C jn c) (nI c) = wi c := by
  obtain ⟨⟨-, hn, -, hnc, -, hmr, hct, -⟩, hR, hT, hS, hJ, hMe, hP, ⟨rk, hrk, hod⟩, hSe⟩ := hF
  exact (tc_brs hn hnc hR (tc_GJ_H hJ) hT (tc_GJ_M hJ hn hnc) hS (hSe (12 + c) (by omega)) (fun r t hr ht e m => hy t ht)).1 c hc rfl
end
theorem i_vc_setting {k : Nat} {u : SX} {v : SY} (I : i_Rel k u v) (hk : k + 4 ≤ 2051) (v1 : Int32) : wpX_setting (fun r => wpY_setting (fun r' => r' = r ∧ i_Rel (k + 4) u v) v v1) u v1 := by
  refine zz_el (P := fun u v => wpX_setting (fun r => wpY_setting (fun r' => r' = r ∧ i_Rel (k + 4) u v) v v1) u v1) ?_ I
  intro ns nc mr ct jn pn hn fn dp B H U lo up fa va me mt mo wi K A D R co T sk ne od su sv fi ya yp yb S C L Y ys yr hF
  have hn : ns ≤ 12 := hF.1.2.1
  have hRel := zz_in (k := k + 4) (dp := dp) (sk := sk) (ne := ne) (su := su) (sv := sv) (fi := fi) (ya := ya) (yp := yp) (yb := yb) (ys := ys) (yr := yr) hF
  unfold wpX_setting wpY_setting
  refine xi_sym hn (fun j hj e => ?_) (fun h => ?_)
  rotate_left
  · refine br_t rfl ?_
    refine yi_sym hn (fun j hj e => absurd ⟨j, hj, e⟩ h) (fun _ => ?_)
    exact br_t rfl ⟨rfl, hRel⟩
  have hi : vp_in v1 12 := pk_in j 12 (by omega) e
  refine br_f (by decide) ⟨hi, ?_⟩
  refine yi_sym hn (fun _ _ _ => ?_) (fun h => absurd ⟨j, hj, e⟩ h)
  exact br_f (by decide) ⟨hi, rfl, hRel⟩
theorem i_vc_fileChar {k : Nat} {u : SX} {v : SY} (I : i_Rel k u v) (hk : k + 4 ≤ 2051) (v1 : Int32) : wpX_fileChar (fun r => wpY_fileChar (fun r' => r' = r ∧ i_Rel (k + 4) u v) v v1) u v1 := by
  refine zz_el (P := fun u v => wpX_fileChar (fun r => wpY_fileChar (fun r' => r' = r ∧ i_Rel (k + 4) u v) v v1) u v1) ?_ I
  intro ns nc mr ct jn pn hn fn dp B H U lo up fa va me mt mo wi K A D R co T sk ne od su sv fi ya yp yb S C L Y ys yr hF
  have hfn : fn ≤ 96 := hF.1.2.2.2.2.2.2.2
  have hRel := zz_in (k := k + 4) (dp := dp) (sk := sk) (ne := ne) (su := su) (sv := sv) (fi := fi) (ya := ya) (yp := yp) (yb := yb) (ys := ys) (yr := yr) hF
  by_cases h0 : v1 < 0
  · exact br_t h0 (br_t h0 ⟨rfl, hRel⟩)
  · by_cases h1 : nI fn ≤ v1
    · exact br_f h0 (br_t h1 (br_f h0 (br_f (Int32.not_lt.mpr h1) ⟨rfl, hRel⟩)))
    · rcases pk_ix v1 (n := fn) (by omega) with w | w | ⟨j, hj, w⟩
      · exact absurd w h0
      · exact absurd w h1
      · have hi : vp_in v1 96 := pk_in j 96 (by omega) w
        exact br_f h0 (br_f h1 ⟨hi, br_f h0 (br_t (Int32.not_le.mp h1) ⟨hi, rfl, hRel⟩)⟩)
theorem i_vc_value {k : Nat} {u : SX} {v : SY} (I : i_Rel k u v) (hk : k + 4 ≤ 2051) (v1 : Int32) : wpX_value (fun r => wpY_value (fun r' v' => r' = r ∧ i_Rel (k + 4) u v') v v1) u v1 := by
  refine zz_el (P := fun u v => wpX_value (fun r => wpY_value (fun r' v' => r' = r ∧ i_Rel (k + 4) u v') v v1) u v1) ?_ I
  intro ns nc mr ct jn pn hn fn dp B H U lo up fa va me mt mo wi K A D R co T sk ne od su sv fi ya yp yb S C L Y ys yr hF
  have hn : ns ≤ 12 := hF.1.2.1
  unfold wpX_value wpY_value
  refine xi_sym hn (fun j hj e => ?_) (fun h => ?_)
  rotate_left
  · refine br_t rfl ?_
    refine yi_sym hn (fun j hj e => absurd ⟨j, hj, e⟩ h) (fun _ => ?_)
    exact br_t rfl ⟨rfl, zz_in hF⟩
  have hi : vp_in v1 12 := pk_in j 12 (by omega) e
  have ej : v1.toNatClampNeg = j := pk_cl j e
  refine br_f (by decide) ⟨hi, ?_⟩
  refine yi_sym hn (fun _ _ _ => ?_) (fun h => absurd ⟨j, hj, e⟩ h)
  refine br_f (by decide) ?_
  refine zy_set hF (fun ya ys hy => ⟨hi, ?_, zz_in hF⟩)
  rw [ej]
  exact hy j hj
theorem i_vc_lower {k : Nat} {u : SX} {v : SY} (I : i_Rel k u v) (hk : k + 4 ≤ 2051) (v1 : Int32) : wpX_lower (fun r => wpY_lower (fun r' v' => r' = r ∧ i_Rel (k + 4) u v') v v1) u v1 := by
  refine zz_el (P := fun u v => wpX_lower (fun r => wpY_lower (fun r' v' => r' = r ∧ i_Rel (k + 4) u v') v v1) u v1) ?_ I
  intro ns nc mr ct jn pn hn fn dp B H U lo up fa va me mt mo wi K A D R co T sk ne od su sv fi ya yp yb S C L Y ys yr hF
  have hF' := hF
  obtain ⟨⟨-, hn, -, hnc, -, hmr, hct, -⟩, hR, hT, hS, hJ, -⟩ := hF'
  unfold wpX_lower wpY_lower
  refine xi_sym hn (fun j hj e => ?_) (fun h => ?_)
  rotate_left
  · refine br_t rfl ?_
    refine yi_sym hn (fun j hj e => absurd ⟨j, hj, e⟩ h) (fun _ => ?_)
    exact br_t rfl ⟨rfl, zz_in hF⟩
  have hi : vp_in v1 12 := pk_in j 12 (by omega) e
  have ej : v1.toNatClampNeg = j := pk_cl j e
  refine br_f (by decide) ⟨hi, ?_⟩
  refine yi_sym hn (fun _ _ _ => ?_) (fun h => absurd ⟨j, hj, e⟩ h)
  refine br_f (by decide) ?_
  refine zy_set hF (fun ya ys hy => ?_)
  rw [ej]
  subst e
  exact yv_low (by omega) hn hR (tc_SM_T hS hT) (by omega) (fun ys => ⟨(zb_s hF hy hj).1, zz_in hF⟩)
theorem i_vc_upper {k : Nat} {u : SX} {v : SY} (I : i_Rel k u v) (hk : k + 4 ≤ 2051) (v1 : Int32) : wpX_upper (fun r => wpY_upper (fun r' v' => r' = r ∧ i_Rel (k + 4) u v') v v1) u v1 := by
  refine zz_el (P := fun u v => wpX_upper (fun r => wpY_upper (fun r' v' => r' = r ∧ i_Rel (k + 4) u v') v v1) u v1) ?_ I
  intro ns nc mr ct jn pn hn fn dp B H U lo up fa va me mt mo wi K A D R co T sk ne od su sv fi ya yp yb S C L Y ys yr hF
  have hF' := hF
  obtain ⟨⟨-, hn, -, hnc, -, hmr, hct, -⟩, hR, hT, hS, hJ, -⟩ := hF'
  unfold wpX_upper wpY_upper
  refine xi_sym hn (fun j hj e => ?_) (fun h => ?_)
  rotate_left
  · refine br_t rfl ?_
    refine yi_sym hn (fun j hj e => absurd ⟨j, hj, e⟩ h) (fun _ => ?_)
    exact br_t rfl ⟨rfl, zz_in hF⟩
  have hi : vp_in v1 12 := pk_in j 12 (by omega) e
  have ej : v1.toNatClampNeg = j := pk_cl j e
  refine br_f (by decide) ⟨hi, ?_⟩
  refine yi_sym hn (fun _ _ _ => ?_) (fun h => absurd ⟨j, hj, e⟩ h)
  refine br_f (by decide) ?_
  refine zy_set hF (fun ya ys hy => ?_)
  rw [ej]
  subst e
  exact yv_up (by omega) hn (tc_SM_T hS hT) hJ (by omega) (fun ys => ⟨(zb_s hF hy hj).2, zz_in hF⟩)
theorem i_vc_winner {k : Nat} {u : SX} {v : SY} (I : i_Rel k u v) (hk : k + 4 ≤ 2051) (v1 : Int32) : wpX_winner (fun r => wpY_winner (fun r' v' => r' = r ∧ i_Rel (k + 4) u v') v v1) u v1 := by
  refine zz_el (P := fun u v => wpX_winner (fun r => wpY_winner (fun r' v' => r' = r ∧ i_Rel (k + 4) u v') v v1) u v1) ?_ I
  intro ns nc mr ct jn pn hn fn dp B H U lo up fa va me mt mo wi K A D R co T sk ne od su sv fi ya yp yb S C L Y ys yr hF
  have hF' := hF
  obtain ⟨⟨-, hn, -, hnc, -, hmr, hct, -⟩, hR, hT, hS, hJ, -⟩ := hF'
  unfold wpX_winner wpY_winner
  refine xi_cho hnc (fun j hj e => ?_) (fun h => ?_)
  rotate_left
  · refine br_t rfl ?_
    refine yi_cho hnc (fun j hj e => absurd ⟨j, hj, e⟩ h) (fun _ => ?_)
    exact br_t rfl ⟨rfl, zz_in hF⟩
  have hi : vp_in v1 3 := pk_in j 3 (by omega) e
  have ej : v1.toNatClampNeg = j := pk_cl j e
  refine br_f (by decide) ⟨hi, ?_⟩
  refine yi_cho hnc (fun _ _ _ => ?_) (fun h => absurd ⟨j, hj, e⟩ h)
  refine br_f (by decide) ?_
  refine zy_set hF (fun ya ys hy => ?_)
  rw [ej]
  subst e
  exact yw_win (by omega) hn hR (tc_SM_T hS hT) hJ (fun ys => ⟨zb_c hF hy (by omega), zz_in hF⟩)
def tc_nv (lo up : Nat → Int32) (fr : Int32) : Nat → Nat → Int32
  | 0, _ => -10
  | d + 1, s => if nI s < fr then tc_nv lo up fr d (s + 1) else if lo s ≤ up s then tc_nv lo up fr d (s + 1) else nI s
section
variable {ns nc mr ct jn pn hn fn : Nat} {pl ph dp oc fl fz : Int32}
variable {B H U lo up fa va me mt mo wi K A D R co T sk ne od su sv fi ya yp yb S C L Y ys yr : Nat → Int32}
theorem xv_lp {post : Int32 → Prop} {fr : Int32} (hn : ns ≤ 12) : ∀ d s f, s + d = ns → d < f → post (tc_nv lo up fr d s) → wX_nextViolation_2 post fr (nI ns) (nI nc) (nI mr) (nI ct) pl ph dp oc fl B H U lo up fa va me mt mo wi K A D R co T sk ne od su sv fi f (nI s) := by
  intro d
  induction d with
  | zero =>
    intro s f hs hf hp
    obtain ⟨f, rfl⟩ : ∃ g, f = g + 1 := ⟨f - 1, by omega⟩
    exact br_t (nI_le (by omega) (by omega)) hp
  | succ d ih =>
    intro s f hs hf hp
    obtain ⟨f, rfl⟩ : ∃ g, f = g + 1 := ⟨f - 1, by omega⟩
    have e : (nI s).toNatClampNeg = s := nI_clamp (by omega)
    have hi : vp_in (nI s) 12 := vp_in_nI (by omega) (by decide)
    have hp : post (if nI s < fr then tc_nv lo up fr d (s + 1) else if lo s ≤ up s then tc_nv lo up fr d (s + 1) else nI s) := hp
    refine br_f (nI_ge (by omega) (by omega)) ?_
    by_cases h1 : nI s < fr
    · rw [if_pos h1] at hp
      exact br_t h1 (nm_r (nI_1 s) (ih (s + 1) f (by omega) (by omega) hp))
    · rw [if_neg h1] at hp
      refine br_f h1 ⟨hi, hi, ?_⟩
      rw [e]
      by_cases h2 : lo s ≤ up s
      · rw [if_pos h2] at hp
        exact br_t h2 (nm_r (nI_1 s) (ih (s + 1) f (by omega) (by omega) hp))
      · rw [if_neg h2] at hp
        exact br_f h2 hp
theorem yv_lp {post : Int32 → SY → Prop} {fr : Int32} (hF : tc_Fx ns nc mr ct jn pn hn fn B H U lo up fa va me mt mo wi K A D R co T od S C L Y) (hy : ∀ t, t < ns → ya t = va t) : ∀ d s f ys, s + d = ns → d < f → (∀ ys, post (tc_nv lo up fr d s) ((nI ns), (nI nc), (nI mr), (nI jn), (nI ct), (nI fn), B, U, ya, yp, yb, S, C, K, A, D, L, Y, ys, yr, fi)) → wY_nextViolation_6 post fr f (nI s) (nI ns) (nI nc) (nI mr) (nI jn) (nI ct) (nI fn) B U ya yp yb S C K A D L Y ys yr fi := by
  have hF' := hF
  obtain ⟨⟨-, hn, -, hnc, -, hmr, hct, -⟩, hR, hT, hS, hJ, -⟩ := hF'
  intro d
  induction d with
  | zero =>
    intro s f ys hs hf hp
    obtain ⟨f, rfl⟩ : ∃ g, f = g + 1 := ⟨f - 1, by omega⟩
    exact br_t (nI_le (by omega) (by omega)) (hp ys)
  | succ d ih =>
    intro s f ys hs hf hp
    obtain ⟨f, rfl⟩ : ∃ g, f = g + 1 := ⟨f - 1, by omega⟩
    have hp : ∀ ys, post (if nI s < fr then tc_nv lo up fr d (s + 1) else if lo s ≤ up s then tc_nv lo up fr d (s + 1) else nI s) ((nI ns), (nI nc), (nI mr), (nI jn), (nI ct), (nI fn), B, U, ya, yp, yb, S, C, K, A, D, L, Y, ys, yr, fi) := hp
    obtain ⟨b1, b2⟩ := zb_s hF hy (show s < ns by omega)
    refine br_f (nI_ge (by omega) (by omega)) ?_
    by_cases h1 : nI s < fr
    · rw [if_pos h1] at hp
      exact br_t h1 (nm_r (nI_1 s) (ih (s + 1) f ys (by omega) (by omega) hp))
    · rw [if_neg h1] at hp
      refine br_f h1 (yv_low (by omega) hn hR (tc_SM_T hS hT) (by omega) (fun ys => yv_up (by omega) hn (tc_SM_T hS hT) hJ (by omega) (fun ys => ?_)))
      rw [b1, b2]
      by_cases h2 : lo s ≤ up s
      · rw [if_pos h2] at hp
        exact br_t h2 (nm_r (nI_1 s) (ih (s + 1) f ys (by omega) (by omega) hp))
      · rw [if_neg h2] at hp
        exact br_f h2 (hp ys)
end
theorem i_vc_nextViolation {k : Nat} {u : SX} {v : SY} (I : i_Rel k u v) (hk : k + 4 ≤ 2051) (v1 : Int32) : wpX_nextViolation (fun r => wpY_nextViolation (fun r' v' => r' = r ∧ i_Rel (k + 4) u v') v v1) u v1 := by
  refine zz_el (P := fun u v => wpX_nextViolation (fun r => wpY_nextViolation (fun r' v' => r' = r ∧ i_Rel (k + 4) u v') v v1) u v1) ?_ I
  intro ns nc mr ct jn pn hn fn dp B H U lo up fa va me mt mo wi K A D R co T sk ne od su sv fi ya yp yb S C L Y ys yr hF
  have hn : ns ≤ 12 := hF.1.2.1
  refine Exists.intro (ns + 1) (xv_lp hn ns 0 (ns + 1) (by omega) (by omega) (zy_set hF (fun ya ys hy => ?_)))
  exact Exists.intro (ns + 1) (yv_lp hF hy ns 0 (ns + 1) ys (by omega) (by omega) (fun ys => ⟨rfl, zz_in hF⟩))
end
section
/-! small storing methods -/
section
variable {ns nc mr ct jn pn hn fn : Nat} {pl ph dp oc fl fz : Int32}
variable {B H U lo up fa va me mt mo wi K A D R co T sk ne od su sv fi ya yp yb S C L Y ys yr : Nat → Int32}
theorem zf_fn {fn' : Nat} (hF : tc_Fx ns nc mr ct jn pn hn fn B H U lo up fa va me mt mo wi K A D R co T od S C L Y) (h : fn' ≤ 96) : tc_Fx ns nc mr ct jn pn hn fn' B H U lo up fa va me mt mo wi K A D R co T od S C L Y := ⟨⟨hF.1.1, hF.1.2.1, hF.1.2.2.1, hF.1.2.2.2.1, hF.1.2.2.2.2.1, hF.1.2.2.2.2.2.1, hF.1.2.2.2.2.2.2.1, h⟩, hF.2⟩
/-- the component settles anew, from any settings and kinds -/
theorem zr_rec {post : SX → Prop} {B' U' : Nat → Int32} (hF : tc_Fx ns nc mr ct jn pn hn fn B H U lo up fa va me mt mo wi K A D R co T od S C L Y) (hp : ∀ co' dp sk lo' up' fa' va' mo' wi', tc_Fx ns nc mr ct jn pn hn fn B' H U' lo' up' fa' va' me mt mo' wi' K A D R co' T od S C L Y → post ((nI ns), (nI nc), (nI mr), (nI ct), (nI pn), (nI hn), dp, 15, (nI fn), B', H, U', lo', up', fa', va', me, mt, mo', wi', K, A, D, R, co', T, sk, ne, od, su, sv, fi)) : wpX_recompute post ((nI ns), (nI nc), (nI mr), (nI ct), (nI pn), (nI hn), dp, 15, (nI fn), B', H, U', lo, up, fa, va, me, mt, mo, wi, K, A, D, R, co, T, sk, ne, od, su, sv, fi) := by
  obtain ⟨⟨h1, hn, h2, hnc, h3, hmr, hct, h4⟩, hR, hT, hS, hJ, hMe, hP, ⟨rk, hrk, hod⟩, hSe⟩ := hF
  exact zx_rec (by omega) hn hnc hR hT hJ hMe hrk hod (fun co dp sk lo up fa va mo wi h => hp co dp sk lo up fa va mo wi ⟨⟨h1, hn, h2, hnc, h3, hmr, hct, h4⟩, hR, hT, hS, hJ, hMe, hP, ⟨rk, hrk, hod⟩, h⟩)
theorem xp_open {post : Int32 → Prop} (h8 : hn ≤ 8) (p8 : pn ≤ 8) (h0 : pn = 0 ∨ hn = 1 → post 0) (h1 : pn ≠ 0 → hn ≠ 1 → post 1) : wpX_pendingOpen post ((nI ns), (nI nc), (nI mr), (nI ct), (nI pn), (nI hn), dp, 15, (nI fn), B, H, U, lo, up, fa, va, me, mt, mo, wi, K, A, D, R, co, T, sk, ne, od, su, sv, fi) := by
  by_cases z : pn = 0
  · subst z; exact br_t (by decide) (h0 (Or.inl rfl))
  · refine br_f (nI_nle (by omega) (by omega)) ?_
    by_cases y : hn = 1
    · subst y; exact br_t rfl (h0 (Or.inr rfl))
    · exact br_f (fun w => y ((nI_eq (b := 1) (by omega) (by decide)).mp w)) (h1 z y)
theorem yh_lp {post : Int32 → Prop} {n : Nat} (hn : ns ≤ 12) (hc : ct ≤ 24) (h8 : n ≤ 8) (el : L ct = nI n) (hg : tc_gs ns Y (8 * ct) n) (hp : post (nI (tc_hg Y (8 * ct) n))) : ∀ d i f, i + d = n → d < f → wY_height_4 post (nI ns) (nI nc) (nI mr) (nI jn) (nI ct) fz B U ya yp yb S C K A D L Y ys yr fi f (nI (tc_hg Y (8 * ct) i)) (nI i) := by
  have e : (nI ct).toNatClampNeg = ct := nI_clamp (by omega)
  have hi : vp_in (nI ct) 25 := vp_in_nI (by omega) (by decide)
  intro d
  induction d with
  | zero =>
    intro i f hd hf
    obtain ⟨f, rfl⟩ : ∃ g, f = g + 1 := ⟨f - 1, by omega⟩
    obtain rfl : i = n := by omega
    refine ⟨hi, br_t ?_ hp⟩
    rw [e, el]; exact nI_le (Nat.le_refl _) (by omega)
  | succ d ih =>
    intro i f hd hf
    obtain ⟨f, rfl⟩ : ∃ g, f = g + 1 := ⟨f - 1, by omega⟩
    have et : Y (nI ct * (8 : Int32) + nI i).toNatClampNeg = Y (8 * ct + i) := tc_cg (pk_cl (8 * ct + i) (tc_i8' ct i))
    have hh := (tc_hg_p hn i (fun q hq => hg q (by omega))).1
    have hi2 := ih (i + 1) f (by omega) (by omega)
    rw [tc_hg_s rfl] at hi2
    refine ⟨hi, br_f ?_ ⟨pk_in (8 * ct + i) 200 (by omega) (tc_i8' ct i), nm_r et ?_⟩⟩
    · rw [e, el]; exact nI_ge (by omega) (by omega)
    rcases tc_tk_h (hg i (by omega)) hn with ⟨e1, e2⟩ | ⟨e1, e2, e3⟩ | ⟨e1, e2, e3, e4⟩
    · rw [e1] at hi2
      exact br_f e2 (nm_r (nI_1 _) (nm_r (nI_1 i) hi2))
    · rw [e1] at hi2
      exact br_t (by rw [e3]; decide) (br_t e3 (nm_r (nI_1 i) hi2))
    · rw [e1] at hi2
      exact br_t e3 (br_f e4 (nm_r (sb_m1 (by omega)) (nm_r (nI_1 i) hi2)))
theorem yh_height {post : Int32 → Prop} {n : Nat} (hn : ns ≤ 12) (hc : ct ≤ 24) (h8 : n ≤ 8) (el : L ct = nI n) (hg : tc_gs ns Y (8 * ct) n) (hp : post (nI (tc_hg Y (8 * ct) n))) : wpY_height post ((nI ns), (nI nc), (nI mr), (nI jn), (nI ct), fz, B, U, ya, yp, yb, S, C, K, A, D, L, Y, ys, yr, fi) :=
  Exists.intro (n + 1) (yh_lp hn hc h8 el hg hp n 0 (n + 1) (by omega) (by omega))
theorem tc_PN_y (h : tc_PN ns ct pn hn T L Y) : tc_gs ns Y (8 * ct) pn ∧ tc_hg Y (8 * ct) pn = hn := by
  obtain ⟨h8, el, ey, hg, eh⟩ := h
  exact ⟨tc_gs_c (fun q hq => (ey q hq).symm) hg, by rw [eh]; exact tc_hg_c pn ey⟩
theorem tc_PN_8 (hns : ns ≤ 12) (h : tc_PN ns ct pn hn T L Y) : hn ≤ pn ∧ pn ≤ 8 := by
  obtain ⟨h8, el, ey, hg, eh⟩ := h
  have := (tc_hg_p hns pn hg).1
  omega
theorem yp_open {post : Int32 → Prop} (hns : ns ≤ 12) (hc : ct ≤ 24) (hP : tc_PN ns ct pn hn T L Y) (h0 : pn = 0 ∨ hn = 1 → post 0) (h1 : pn ≠ 0 → hn ≠ 1 → post 1) : wpY_open post ((nI ns), (nI nc), (nI mr), (nI jn), (nI ct), fz, B, U, ya, yp, yb, S, C, K, A, D, L, Y, ys, yr, fi) := by
  obtain ⟨g1, g2⟩ := tc_PN_y hP
  obtain ⟨b1, b2⟩ := tc_PN_8 hns hP
  have el := hP.2.1
  have e : (nI ct).toNatClampNeg = ct := nI_clamp (by omega)
  refine And.intro (vp_in_nI (by omega) (by decide)) ?_
  rw [e, el]
  by_cases z : pn = 0
  · subst z; exact br_t rfl (h0 (Or.inl rfl))
  · refine br_f (nI_ne0 (by omega) (by omega)) ?_
    refine yh_height hns hc b2 el g1 ?_
    rw [g2]
    by_cases y : hn = 1
    · subst y; exact br_t rfl (h0 (Or.inr rfl))
    · exact br_f (fun w => y ((nI_eq (b := 1) (by omega) (by decide)).mp w)) (h1 z y)
end
theorem i_vc_putChar {k : Nat} {u : SX} {v : SY} (I : i_Rel k u v) (hk : k + 4 ≤ 2051) (v1 : Int32) : wpX_putChar (fun r u' => wpY_putChar (fun r' v' => r' = r ∧ i_Rel (k + 4) u' v') v v1) u v1 := by
  refine zz_el (P := fun u v => wpX_putChar (fun r u' => wpY_putChar (fun r' v' => r' = r ∧ i_Rel (k + 4) u' v') v v1) u v1) ?_ I
  intro ns nc mr ct jn pn hn fn dp B H U lo up fa va me mt mo wi K A D R co T sk ne od su sv fi ya yp yb S C L Y ys yr hF
  have hfn : fn ≤ 96 := hF.1.2.2.2.2.2.2.2
  have h31 : (∀ post : Int32 → SY → Prop, wY_putChar_31 post v1 (nI ns) (nI nc) (nI mr) (nI jn) (nI ct) (nI fn) B U ya yp yb S C K A D L Y ys yr fi → wpY_putChar post ((nI ns), (nI nc), (nI mr), (nI jn), (nI ct), (nI fn), B, U, ya, yp, yb, S, C, K, A, D, L, Y, ys, yr, fi) v1) → wX_putChar_31 (fun r u' => wpY_putChar (fun r' v' => r' = r ∧ i_Rel (k + 4) u' v') ((nI ns), (nI nc), (nI mr), (nI jn), (nI ct), (nI fn), B, U, ya, yp, yb, S, C, K, A, D, L, Y, ys, yr, fi) v1) v1 (nI ns) (nI nc) (nI mr) (nI ct) (nI pn) (nI hn) dp 15 (nI fn) B H U lo up fa va me mt mo wi K A D R co T sk ne od su sv fi := by
    intro hY
    unfold wX_putChar_31
    by_cases h : fn < 96
    · have e : (nI fn).toNatClampNeg = fn := nI_clamp (by omega)
      have hi : vp_in (nI fn) 96 := vp_in_nI h (by decide)
      have hlt : nI fn < 96 := nI_lt (b := 96) h (by decide)
      refine br_t hlt ?_
      unfold wpX_append
      refine br_f (nI_ge (b := 96) h (by decide)) ⟨hi, nm_r (e' := upd fi fn v1) (by rw [e]) (nm_r (nI_1 fn) ?_)⟩
      refine hY _ ?_
      unfold wY_putChar_31
      refine br_t hlt ⟨hi, nm_r (e' := upd fi fn v1) (by rw [e]) (nm_r (nI_1 fn) ?_)⟩
      exact ⟨rfl, zz_in (zf_fn hF (by omega))⟩
    · have hge : ¬ nI fn < 96 := nI_nlt (b := 96) (by omega) (by omega)
      refine br_f hge ?_
      refine hY _ ?_
      exact br_f hge ⟨rfl, zz_in hF⟩
  by_cases h0 : v1 = 0
  · refine br_t h0 (br_t h0 ⟨rfl, ?_⟩)
    exact zz_in (fn := 0) (zf_fn hF (by omega))
  · by_cases h1 : v1 = 10
    · refine br_f h0 (br_t h1 ?_)
      exact h31 (fun post hp => br_f h0 (br_t h1 hp))
    · by_cases h2 : v1 < 32
      · exact br_f h0 (br_f h1 (br_t h2 (br_f h0 (br_f h1 (br_t h2 ⟨rfl, zz_in hF⟩)))))
      · by_cases h3 : v1 ≤ 126
        · refine br_f h0 (br_f h1 (br_f h2 (br_t h3 ?_)))
          exact h31 (fun post hp => br_f h0 (br_f h1 (br_f h2 (br_t h3 hp))))
        · exact br_f h0 (br_f h1 (br_f h2 (br_f h3 (br_f h0 (br_f h1 (br_f h2 (br_f h3 ⟨rfl, zz_in hF⟩)))))))
theorem i_vc_makeBool {k : Nat} {u : SX} {v : SY} (I : i_Rel k u v) (hk : k + 4 ≤ 2051) (v1 : Int32) : wpX_makeBool (fun r u' => wpY_makeBool (fun r' v' => r' = r ∧ i_Rel (k + 4) u' v') v v1) u v1 := by
  refine zz_el (P := fun u v => wpX_makeBool (fun r u' => wpY_makeBool (fun r' v' => r' = r ∧ i_Rel (k + 4) u' v') v v1) u v1) ?_ I
  intro ns nc mr ct jn pn hn fn dp B H U lo up fa va me mt mo wi K A D R co T sk ne od su sv fi ya yp yb S C L Y ys yr hF
  have hn : ns ≤ 12 := hF.1.2.1
  unfold wpX_makeBool wpY_makeBool
  refine xi_sym hn (fun j hj e => ?_) (fun h => ?_)
  rotate_left
  · refine br_t rfl ?_
    refine yi_sym hn (fun j hj e => absurd ⟨j, hj, e⟩ h) (fun _ => ?_)
    exact br_t rfl ⟨rfl, zz_in hF⟩
  have hi : vp_in v1 12 := pk_in j 12 (by omega) e
  have hY : ∀ post : Int32 → Prop, post 1 → wpY_isSymbol post ((nI ns), (nI nc), (nI mr), (nI jn), (nI ct), (nI fn), B, U, ya, yp, yb, S, C, K, A, D, L, Y, ys, yr, fi) v1 := fun post hp => yi_sym hn (fun _ _ _ => hp) (fun h => absurd ⟨j, hj, e⟩ h)
  refine br_f (by decide) ⟨hi, ?_⟩
  by_cases h1 : B v1.toNatClampNeg = 0
  · refine br_t h1 ⟨hi, ?_⟩
    by_cases h2 : U v1.toNatClampNeg = 3
    · refine br_t h2 ⟨hi, nm_e ?_⟩
      refine zr_rec hF (fun co' dp sk lo' up' fa' va' mo' wi' hF' => ?_)
      refine hY _ ?_
      exact br_f (by decide) ⟨hi, br_t h1 ⟨hi, br_t h2 ⟨hi, nm_e ⟨rfl, zz_in hF'⟩⟩⟩⟩
    · refine br_f h2 ?_
      refine hY _ ?_
      exact br_f (by decide) ⟨hi, br_t h1 ⟨hi, br_f h2 ⟨rfl, zz_in hF⟩⟩⟩
  · refine br_f h1 ?_
    refine hY _ ?_
    exact br_f (by decide) ⟨hi, br_f h1 ⟨rfl, zz_in hF⟩⟩
theorem i_vc_evaluate {k : Nat} {u : SX} {v : SY} (I : i_Rel k u v) (hk : k + 4 ≤ 2051) : wpX_evaluate (fun r u' => wpY_evaluate (fun r' v' => r' = r ∧ i_Rel (k + 4) u' v') v) u := by
  refine zz_el (P := fun u v => wpX_evaluate (fun r u' => wpY_evaluate (fun r' v' => r' = r ∧ i_Rel (k + 4) u' v') v) u) ?_ I
  intro ns nc mr ct jn pn hn fn dp B H U lo up fa va me mt mo wi K A D R co T sk ne od su sv fi ya yp yb S C L Y ys yr hF
  have hF' := hF
  obtain ⟨⟨-, hn12, -, hnc, -, hmr, hct, -⟩, hR, hT, hS, hJ, hMe, hP, -, -⟩ := hF'
  obtain ⟨g1, g2⟩ := tc_PN_y hP
  obtain ⟨b1, b2⟩ := tc_PN_8 hn12 hP
  obtain ⟨p8, el, ey, hg, eh⟩ := hP
  unfold wpX_evaluate wpY_evaluate
  refine xp_open (by omega) (by omega) (fun h => ?_) (fun z y => ?_)
  · refine br_t rfl ?_
    refine xe_ev hn12 (by omega) b2 hg rfl rfl (fun dp sk => ?_)
    refine yp_open hn12 (by omega) ⟨p8, el, ey, hg, eh⟩ (fun _ => ?_) (fun z y => (by rcases h with h | h <;> omega))
    refine br_t rfl ?_
    refine zy_set hF (fun ya ys hy => ?_)
    refine ye_cond hn12 (by omega) b2 el g1 (fun ys => ⟨?_, zz_in hF⟩)
    exact (tc_ev_c hn12 hg (fun q hq => (ey q hq).symm) (fun q j _ hj _ => (hy j hj).symm)).symm
  · refine br_f (by decide) ?_
    refine yp_open hn12 (by omega) ⟨p8, el, ey, hg, eh⟩ (fun h => (by rcases h with h | h <;> omega)) (fun _ _ => ?_)
    exact br_f (by decide) ⟨rfl, zz_in hF⟩
end
section
/-! the constructors -/
theorem tc_clp {a b : Nat} (hab : a ≤ b) (hb : b < 2 ^ 31) (p : Int32) : ∃ j, a ≤ j ∧ j ≤ b ∧ tc_mn (tc_mx p (nI a)) (nI b) = nI j ∧ ∀ P : Int32 → Prop, P (nI j) → (nI a ≤ p → (p ≤ nI b → P p) ∧ (¬ p ≤ nI b → P (nI b))) ∧ (¬ nI a ≤ p → P (nI a)) := by
  by_cases h1 : nI a ≤ p
  · by_cases h2 : p ≤ nI b
    · obtain ⟨j, hj, rfl⟩ := nI_of (x := p) (Int32.not_lt.mpr (Int32.le_trans (nI_pos' (by omega)) h1))
      rw [nI_leI (by omega) hj] at h1
      rw [nI_leI hj hb] at h2
      refine ⟨j, h1, h2, ?_, fun P hp => br_t (nI_le h1 hj) (br_t (nI_le h2 hb) hp)⟩
      have e1 : tc_mx (nI j) (nI a) = nI j := by
        unfold tc_mx
        by_cases z : nI j ≤ nI a
        · rw [if_pos z]
          rw [nI_leI hj (by omega)] at z
          exact congrArg nI (by omega)
        · exact if_neg z
      rw [e1]
      unfold tc_mn
      by_cases z : nI b ≤ nI j
      · rw [if_pos z]
        rw [nI_leI hb hj] at z
        exact congrArg nI (by omega)
      · exact if_neg z
    · refine ⟨b, hab, Nat.le_refl _, ?_, fun P hp => br_t h1 (br_f h2 hp)⟩
      have h3 : nI b ≤ p := Int32.le_of_lt (Int32.not_le.mp h2)
      have e1 : tc_mx p (nI a) = p := if_neg (fun z => h2 (Int32.le_trans z (nI_le hab hb)))
      rw [e1]
      exact if_pos h3
  · refine ⟨a, Nat.le_refl _, hab, ?_, fun P hp => br_f h1 hp⟩
    have e1 : tc_mx p (nI a) = nI a := if_pos (Int32.le_of_lt (Int32.not_le.mp h1))
    rw [e1]
    unfold tc_mn
    by_cases z : nI b ≤ nI a
    · rw [if_pos z]
      rw [nI_leI hb (by omega)] at z
      exact congrArg nI (by omega)
    · exact if_neg z
def tc_U0 : Nat → Int32 := fun j => if j < 12 then 3 else 0
section
variable {ns nc mr ct jn pn hn fn : Nat} {pl ph dp oc fl fz : Int32}
variable {B H U lo up fa va me mt mo wi K A D R co T sk ne od su sv fi ya yp yb S C L Y ys yr : Nat → Int32}
theorem xc_clp {post : Int32 → Prop} {z1 z2 z3 z4 p x y : Int32} {a b j : Nat} (ex : x = nI a) (ey : y = nI b) (e : tc_mn (tc_mx p (nI a)) (nI b) = nI j) (hp : post (nI j)) : wpX_clamp post (z1, z2, z3, z4, pl, ph, dp, oc, fl, B, H, U, lo, up, fa, va, me, mt, mo, wi, K, A, D, R, co, T, sk, ne, od, su, sv, fi) p x y := by
  subst ex ey
  unfold wpX_clamp
  refine xb_mx rfl (xb_mn rfl ?_)
  rw [e]
  exact hp
theorem yc_clp {post : Int32 → Prop} {z1 z2 z3 z4 z5 p x y : Int32} {a b j : Nat} (ex : x = nI a) (ey : y = nI b) (e : ∀ P : Int32 → Prop, P (nI j) → (nI a ≤ p → (p ≤ nI b → P p) ∧ (¬ p ≤ nI b → P (nI b))) ∧ (¬ nI a ≤ p → P (nI a))) (hp : post (nI j)) : wpY_clamp post (z1, z2, z3, z4, z5, fz, B, U, ya, yp, yb, S, C, K, A, D, L, Y, ys, yr, fi) p x y := by
  subst ex ey
  exact e post hp
theorem xc_lp {post : SX → Prop} (hp : ∀ H, (∀ j, j < 12 → H j = -1) → wpX_sortKnots (fun _ u => wpX_recompute (fun u => post u) u) ((nI ns), (nI nc), (nI mr), 0, pl, ph, dp, oc, fl, B, H, tc_U0, lo, up, fa, va, me, mt, mo, wi, K, A, D, R, co, T, sk, ne, od, su, sv, fi)) : ∀ d s f H U, s + d = 12 → d < f → (∀ j, j < s → H j = -1) → (∀ j, U j = if j < s then 3 else 0) → wX_init_224 post (nI ns) (nI nc) (nI mr) 0 pl ph dp oc fl f (nI s) B H U lo up fa va me mt mo wi K A D R co T sk ne od su sv fi := by
  intro d
  induction d with
  | zero =>
    intro s f H U hs hf h1 h2
    obtain ⟨f, rfl⟩ : ∃ g, f = g + 1 := ⟨f - 1, by omega⟩
    obtain rfl : s = 12 := by omega
    obtain rfl : U = tc_U0 := funext h2
    exact br_t (by decide) (hp H h1)
  | succ d ih =>
    intro s f H U hs hf h1 h2
    obtain ⟨f, rfl⟩ : ∃ g, f = g + 1 := ⟨f - 1, by omega⟩
    have e : (nI s).toNatClampNeg = s := nI_clamp (by omega)
    have hi : vp_in (nI s) 12 := vp_in_nI (by omega) (by decide)
    refine br_f (nI_ge (b := 12) (by omega) (by decide)) ⟨hi, nm_r (e' := upd H s (-1)) (by rw [e]) ⟨hi, nm_r (e' := upd U s 3) (by rw [e]) (nm_r (nI_1 s) (ih (s + 1) f _ _ (by omega) (by omega) (fun j hj => ?_) (fun j => ?_)))⟩⟩
    · by_cases z : j = s
      · rw [z, pk_us]
      · rw [pk_un z]; exact h1 j (by omega)
    · by_cases z : j = s
      · rw [z, pk_us, if_pos (by omega)]
      · rw [pk_un z, h2 j]
        by_cases y : j < s
        · rw [if_pos y, if_pos (by omega)]
        · rw [if_neg y, if_neg (by omega)]
theorem yc_lp {post : SY → Prop} (hp : post ((nI ns), (nI nc), (nI mr), 0, 0, fz, B, tc_U0, ya, yp, yb, S, C, K, A, D, L, Y, ys, yr, fi)) : ∀ d s f U, s + d = 12 → d < f → (∀ j, U j = if j < s then 3 else 0) → wY_init_163 post (nI ns) (nI nc) (nI mr) 0 0 fz f (nI s) B U ya yp yb S C K A D L Y ys yr fi := by
  intro d
  induction d with
  | zero =>
    intro s f U hs hf h2
    obtain ⟨f, rfl⟩ : ∃ g, f = g + 1 := ⟨f - 1, by omega⟩
    obtain rfl : s = 12 := by omega
    obtain rfl : U = tc_U0 := funext h2
    exact br_t (by decide) hp
  | succ d ih =>
    intro s f U hs hf h2
    obtain ⟨f, rfl⟩ : ∃ g, f = g + 1 := ⟨f - 1, by omega⟩
    have e : (nI s).toNatClampNeg = s := nI_clamp (by omega)
    have hi : vp_in (nI s) 12 := vp_in_nI (by omega) (by decide)
    refine br_f (nI_ge (b := 12) (by omega) (by decide)) ⟨hi, nm_r (e' := upd U s 3) (by rw [e]) (nm_r (nI_1 s) (ih (s + 1) f _ (by omega) (by omega) (fun j => ?_)))⟩
    by_cases z : j = s
    · rw [z, pk_us, if_pos (by omega)]
    · rw [pk_un z, h2 j]
      by_cases y : j < s
      · rw [if_pos y, if_pos (by omega)]
      · rw [if_neg y, if_neg (by omega)]
end
theorem i_vc0 (k0 : Int32) (k1 : Int32) (k2 : Int32) : wpX_init (fun u => wpY_init (fun v => i_Rel 3 u v) k0 k1 k2) k0 k1 k2 := by
  obtain ⟨ns, s1, s2, s3, s4⟩ := tc_clp (a := 2) (b := 12) (by omega) (by omega) k0
  obtain ⟨nc, c1, c2, c3, c4⟩ := tc_clp (a := 1) (b := 3) (by omega) (by omega) k1
  obtain ⟨mr, m1, m2, m3, m4⟩ := tc_clp (a := 4) (b := 24) (by omega) (by omega) k2
  unfold wpX_init
  refine xc_clp (a := 2) (b := 12) rfl rfl s3 ?_
  refine xc_clp (a := 1) (b := 3) rfl rfl c3 ?_
  refine xc_clp (a := 4) (b := 24) rfl rfl m3 ?_
  refine ⟨13, xc_lp (fun H hH => ?_) 12 0 13 _ _ (by omega) (by omega) (fun j hj => absurd hj (by omega)) (fun j => (if_neg (by omega)).symm)⟩
  have hJ : tc_GJ ns nc 0 (fun _ => 0) (fun _ => 0) H := by
    refine ⟨fun i hi => absurd hi (by omega), fun i j hi => absurd hi (by omega), hH, ?_⟩
    exact (tc_cn_f 12 (fun k hk => decide_eq_false (fun z => z (by rw [hH k hk]; exact tc_m1)))).symm
  have hR : tc_GR ns nc 0 (fun _ => 0) (fun _ => 0) (fun _ => 0) := fun r hr => absurd hr (by omega)
  have hT : tc_GT ns 0 (fun _ => 0) (fun _ => 0) := fun r hr => absurd hr (by omega)
  have hMe : tc_Me (fun _ => 0) (fun _ => 0) (tc_M (fun _ => 0) (fun _ => 0) 0) := by
    intro c hc
    refine ⟨rfl, Nat.zero_le _, fun l1 m l2 e => ?_⟩
    have := congrArg List.length e
    rw [List.length_append, List.length_cons] at this
    have h0 : (tc_M (fun _ => 0) (fun _ => 0) 0 c).length = 0 := rfl
    omega
  refine xo_sort (ct := 0) (by omega) s2 c2 (tc_GJ_H hJ) hR hT (fun ne od rk hrk hod => ?_) (fun ne oc od h => absurd ⟨fun _ => 0, fun k hk => (by decide : 0 < 15), fun r t hr => absurd hr (by omega)⟩ h)
  refine zx_rec (ct := 0) (by omega) s2 c2 hR hT hJ hMe hrk hod (fun co dp sk lo up fa va mo wi hSe => ?_)
  unfold wpY_init
  refine yc_clp (a := 2) (b := 12) rfl rfl s4 ?_
  refine yc_clp (a := 1) (b := 3) rfl rfl c4 ?_
  refine yc_clp (a := 4) (b := 24) rfl rfl m4 ?_
  refine ⟨13, yc_lp ?_ 12 0 13 _ (by omega) (by omega) (fun j => (if_neg (by omega)).symm)⟩
  have hF : tc_Fx ns nc mr 0 0 0 0 0 (fun _ => 0) H tc_U0 lo up fa va (fun _ => 0) (fun _ => 0) mo wi (fun _ => 0) (fun _ => 0) (fun _ => 0) (fun _ => 0) co (fun _ => 0) od (fun _ => 0) (fun _ => 0) (fun _ => 0) (fun _ => 0) :=
    ⟨⟨s1, s2, c1, c2, m1, m2, by omega, by omega⟩, hR, hT, fun r hr => absurd hr (by omega), hJ, hMe, ⟨by omega, rfl, fun i hi => absurd hi (by omega), fun i hi => absurd hi (by omega), rfl⟩, ⟨rk, hrk, hod⟩, hSe⟩
  exact zz_in hF
end
section
/-! a token -/
theorem tc_31 {j : Nat} (h : j < 31) : nI j < (31 : Int32) := nI_lt (b := 31) h (by decide)
theorem tc_31' {j : Nat} (h : 31 ≤ j) (h2 : j < 2 ^ 31) : ¬ nI j < (31 : Int32) := nI_nlt (b := 31) h h2
theorem tc_34 {j : Nat} (h : j ≤ 34) : ¬ (34 : Int32) < nI j := nI_nlt (a := 34) h (by decide)
theorem tc_34' {j : Nat} (h : 34 < j) (h2 : j < 2 ^ 31) : (34 : Int32) < nI j := nI_lt (a := 34) h h2
def tc_op (ns : Nat) (t : Int32) : Int32 := if t < 0 then (if t < 20 then 0 else if 22 < t then 0 else 1) else if nI ns ≤ t then (if t < 20 then 0 else if 22 < t then 0 else 1) else 1
def tc_bi (t : Int32) : Int32 := if t < 31 then 0 else if 34 < t then 0 else 1
section
variable {ns nc mr ct jn pn hn fn : Nat} {pl ph dp oc fl fz : Int32}
variable {B H U lo up fa va me mt mo wi K A D R co T sk ne od su sv fi ya yp yb S C L Y ys yr : Nat → Int32}
theorem xt_37 {post : Int32 → SX → Prop} {t z : Int32} (h : wX_token_55 post t z (tc_bi t) (nI ns) (nI nc) (nI mr) (nI ct) pl ph dp oc fl B H U lo up fa va me mt mo wi K A D R co T sk ne od su sv fi) : wX_token_37 post t z (nI ns) (nI nc) (nI mr) (nI ct) pl ph dp oc fl B H U lo up fa va me mt mo wi K A D R co T sk ne od su sv fi := by
  unfold tc_bi at h
  by_cases h1 : t < 31
  · rw [if_pos h1] at h; exact br_t h1 h
  · rw [if_neg h1] at h
    by_cases h2 : 34 < t
    · rw [if_pos h2] at h; exact br_f h1 (br_t h2 h)
    · rw [if_neg h2] at h; exact br_f h1 (br_f h2 h)
theorem xt_a {post : Int32 → SX → Prop} {t : Int32} (h40 : ¬ t = 40) (h : wX_token_55 post t (tc_op ns t) (tc_bi t) (nI ns) (nI nc) (nI mr) (nI ct) pl ph dp oc fl B H U lo up fa va me mt mo wi K A D R co T sk ne od su sv fi) : wpX_token post ((nI ns), (nI nc), (nI mr), (nI ct), pl, ph, dp, oc, fl, B, H, U, lo, up, fa, va, me, mt, mo, wi, K, A, D, R, co, T, sk, ne, od, su, sv, fi) t := by
  refine br_f h40 ?_
  unfold tc_op at h
  have key : wX_token_55 post t (if t < 20 then 0 else if 22 < t then 0 else 1) (tc_bi t) (nI ns) (nI nc) (nI mr) (nI ct) pl ph dp oc fl B H U lo up fa va me mt mo wi K A D R co T sk ne od su sv fi → ((t < 20 → wX_token_36 post t (nI ns) (nI nc) (nI mr) (nI ct) pl ph dp oc fl B H U lo up fa va me mt mo wi K A D R co T sk ne od su sv fi) ∧ (¬ t < 20 → ((22 < t → wX_token_36 post t (nI ns) (nI nc) (nI mr) (nI ct) pl ph dp oc fl B H U lo up fa va me mt mo wi K A D R co T sk ne od su sv fi) ∧ (¬ 22 < t → wX_token_32 post t (nI ns) (nI nc) (nI mr) (nI ct) pl ph dp oc fl B H U lo up fa va me mt mo wi K A D R co T sk ne od su sv fi)))) := by
    intro h
    by_cases h1 : t < 20
    · rw [if_pos h1] at h; exact br_t h1 (xt_37 h)
    · rw [if_neg h1] at h
      by_cases h2 : 22 < t
      · rw [if_pos h2] at h; exact br_f h1 (br_t h2 (xt_37 h))
      · rw [if_neg h2] at h; exact br_f h1 (br_f h2 (xt_37 h))
  unfold wpX_isSymbol
  by_cases h1 : t < 0
  · rw [if_pos h1] at h
    exact br_t h1 (br_t rfl (key h))
  · rw [if_neg h1] at h
    refine br_f h1 ?_
    by_cases h2 : nI ns ≤ t
    · rw [if_pos h2] at h
      exact br_t h2 (br_t rfl (key h))
    · rw [if_neg h2] at h
      exact br_f h2 (br_f (by decide) (xt_37 h))
theorem yt_43 {post : Int32 → SY → Prop} {t z : Int32} (h : wY_token_61 post t z (tc_bi t) (nI ns) (nI nc) (nI mr) (nI jn) (nI ct) fz B U ya yp yb S C K A D L Y ys yr fi) : wY_token_43 post t z (nI ns) (nI nc) (nI mr) (nI jn) (nI ct) fz B U ya yp yb S C K A D L Y ys yr fi := by
  unfold tc_bi at h
  by_cases h1 : t < 31
  · rw [if_pos h1] at h; exact br_t h1 h
  · rw [if_neg h1] at h
    by_cases h2 : 34 < t
    · rw [if_pos h2] at h; exact br_f h1 (br_t h2 h)
    · rw [if_neg h2] at h; exact br_f h1 (br_f h2 h)
theorem yt_a {post : Int32 → SY → Prop} {t : Int32} (h40 : ¬ t = 40) (h : wY_token_61 post t (tc_op ns t) (tc_bi t) (nI ns) (nI nc) (nI mr) (nI jn) (nI ct) fz B U ya yp yb S C K A D L Y ys yr fi) : wpY_token post ((nI ns), (nI nc), (nI mr), (nI jn), (nI ct), fz, B, U, ya, yp, yb, S, C, K, A, D, L, Y, ys, yr, fi) t := by
  refine br_f h40 ?_
  unfold tc_op at h
  have key : wY_token_61 post t (if t < 20 then 0 else if 22 < t then 0 else 1) (tc_bi t) (nI ns) (nI nc) (nI mr) (nI jn) (nI ct) fz B U ya yp yb S C K A D L Y ys yr fi → ((t < 20 → wY_token_42 post t (nI ns) (nI nc) (nI mr) (nI jn) (nI ct) fz B U ya yp yb S C K A D L Y ys yr fi) ∧ (¬ t < 20 → ((22 < t → wY_token_42 post t (nI ns) (nI nc) (nI mr) (nI jn) (nI ct) fz B U ya yp yb S C K A D L Y ys yr fi) ∧ (¬ 22 < t → wY_token_38 post t (nI ns) (nI nc) (nI mr) (nI jn) (nI ct) fz B U ya yp yb S C K A D L Y ys yr fi)))) := by
    intro h
    by_cases h1 : t < 20
    · rw [if_pos h1] at h; exact br_t h1 (yt_43 h)
    · rw [if_neg h1] at h
      by_cases h2 : 22 < t
      · rw [if_pos h2] at h; exact br_f h1 (br_t h2 (yt_43 h))
      · rw [if_neg h2] at h; exact br_f h1 (br_f h2 (yt_43 h))
  unfold wpY_isSymbol
  by_cases h1 : t < 0
  · rw [if_pos h1] at h
    exact br_t h1 (br_t rfl (key h))
  · rw [if_neg h1] at h
    refine br_f h1 ?_
    by_cases h2 : nI ns ≤ t
    · rw [if_pos h2] at h
      exact br_t h2 (br_t rfl (key h))
    · rw [if_neg h2] at h
      exact br_f h2 (br_f (by decide) (yt_43 h))
/-- what the two flags tell of a token: an operand, a binary one, the unary one, or none -/
theorem tc_opb {t : Int32} (hn : ns ≤ 12) : ((tc_op ns t = 1 ∧ tc_bi t = 0 ∧ ¬ t = 30 ∧ ¬ 22 < t ∧ ∀ h, tc_tk ns h t) ∨ (tc_op ns t = 0 ∧ tc_bi t = 1 ∧ ¬ t = 30 ∧ 22 < t ∧ ∀ h, 2 ≤ h → tc_tk ns h t)) ∨ (tc_op ns t = 0 ∧ tc_bi t = 0) := by
  by_cases hs : ∃ j, j < ns ∧ t = nI j
  · obtain ⟨j, hj, rfl⟩ := hs
    refine Or.inl (Or.inl ⟨?_, ?_, tc_n30 (by omega) (by omega), tc_22 (by omega), fun h => Or.inl ⟨j, hj, rfl⟩⟩)
    · unfold tc_op
      rw [if_neg (nI_pos (by omega)), if_neg (nI_ge hj (by omega))]
    · unfold tc_bi
      rw [if_pos (tc_31 (by omega))]
  · have hop : tc_op ns t = if t < 20 then 0 else if 22 < t then 0 else 1 := by
      unfold tc_op
      by_cases h1 : t < 0
      · rw [if_pos h1]
      · rw [if_neg h1]
        by_cases h2 : nI ns ≤ t
        · rw [if_pos h2]
        · rcases pk_ix t (n := ns) (by omega) with w | w | w
          · exact absurd w h1
          · exact absurd w h2
          · exact absurd w hs
    rw [hop]
    by_cases h1 : t < 20
    · rw [if_pos h1]
      refine Or.inr ⟨rfl, ?_⟩
      unfold tc_bi
      rw [if_pos (Int32.lt_trans h1 (by decide))]
    · rw [if_neg h1]
      obtain ⟨j, hj, rfl⟩ := nI_of (x := t) (fun z => h1 (Int32.lt_trans z (by decide)))
      have h20 : 20 ≤ j := by
        by_cases z : j < 20
        · exact absurd (nI_lt (b := 20) z (by decide)) h1
        · omega
      by_cases h2 : j ≤ 22
      · rw [if_neg (tc_22 h2)]
        refine Or.inl (Or.inl ⟨rfl, ?_, tc_n30 (by omega) hj, tc_22 h2, fun h => Or.inr (Or.inl ⟨j, h20, h2, rfl⟩)⟩)
        unfold tc_bi
        rw [if_pos (tc_31 (by omega))]
      · rw [if_pos (tc_22' (by omega) hj)]
        by_cases h3 : 31 ≤ j ∧ j ≤ 34
        · refine Or.inl (Or.inr ⟨rfl, ?_, tc_n30 (by omega) hj, tc_22' (by omega) hj, fun h hh => Or.inr (Or.inr (Or.inr ⟨j, h3.1, h3.2, rfl, hh⟩))⟩)
          unfold tc_bi
          rw [if_neg (tc_31' h3.1 hj), if_neg (tc_34 h3.2)]
        · refine Or.inr ⟨rfl, ?_⟩
          unfold tc_bi
          by_cases h4 : j < 31
          · rw [if_pos (tc_31 h4)]
          · rw [if_neg (tc_31' (by omega) hj), if_pos (tc_34' (by omega) hj)]
/-- the same texts in another place -/
theorem tc_SM_Se {M : Nat → List Nat} {k : Nat} (hn : ns ≤ 12) (hT : tc_GT ns ct R T) (hS : tc_SM ct R T L Y) (h : tc_Se ct M K A D B U H R T co va lo up fa mo wi k) : tc_Se ct M K A D B U H L Y co va lo up fa mo wi k :=
  ⟨fun r hr e => (h.1 r hr e).trans (tc_cv_s (K := K) (A := A) hn hT hS hr (fun _ _ _ => rfl)).symm, h.2⟩
/-- the pending expression changes, the rules stay -/
theorem zf_pn {pn' hn' : Nat} {T' L' Y' : Nat → Int32} (hF : tc_Fx ns nc mr ct jn pn hn fn B H U lo up fa va me mt mo wi K A D R co T od S C L Y) (h1 : tc_SM ct R T R T') (h2 : tc_SM ct R T L' Y') (h3 : tc_PN ns ct pn' hn' T' L' Y') : tc_Fx ns nc mr ct jn pn' hn' fn B H U lo up fa va me mt mo wi K A D R co T' od S C L' Y' := by
  obtain ⟨hd, hR, hT, hS, hJ, hMe, hP, ⟨rk, hrk, hod⟩, hSe⟩ := hF
  refine ⟨hd, hR, tc_SM_T h1 hT, fun r hr => ?_, hJ, hMe, h3, ⟨rk, (tc_SM_rk h1).mp hrk, hod⟩, fun k hk => tc_SM_Se hd.2.1 hT h1 (hSe k hk)⟩
  obtain ⟨a1, a2⟩ := h1 r hr
  obtain ⟨b1, b2⟩ := h2 r hr
  exact ⟨b1, fun i hi => (b2 i hi).trans (a2 i hi).symm⟩
theorem tc_SM_r (ct : Nat) (R T : Nat → Int32) : tc_SM ct R T R T := fun _ _ => ⟨rfl, fun _ _ => rfl⟩
/-- a good token is appended -/
theorem zf_tok {t : Int32} (hF : tc_Fx ns nc mr ct jn pn hn fn B H U lo up fa va me mt mo wi K A D R co T od S C L Y) (hp8 : pn < 8) (hk : tc_tk ns hn t) : tc_Fx ns nc mr ct jn (pn + 1) (if 22 < t then (if t = 30 then hn else hn - 1) else hn + 1) fn B H U lo up fa va me mt mo wi K A D R co (upd T (192 + pn) t) od S C (upd L ct (nI (pn + 1))) (upd Y (8 * ct + pn) t) := by
  have hF' := hF
  obtain ⟨⟨-, hn12, -, hnc, -, hmr, hct, -⟩, hR, hT, hS, hJ, hMe, ⟨p8, el, ey, hg, eh⟩, -, -⟩ := hF'
  have hlen : ∀ r, r < ct → (R r).toNatClampNeg ≤ 8 := by
    intro r hr
    obtain ⟨n, h8, er, -⟩ := hT r hr
    rw [er, nI_clamp (by omega)]; exact h8
  have eT : ∀ q, q < pn → T (192 + q) = upd T (192 + pn) t (192 + q) := fun q hq => (pk_un (by omega)).symm
  have eH : tc_hg (upd T (192 + pn) t) 192 pn = hn := by rw [eh]; exact (tc_hg_c pn eT).symm
  refine zf_pn hF (fun r hr => ⟨rfl, fun i hi => pk_un ?_⟩) (fun r hr => ⟨?_, fun i hi => ?_⟩) ⟨by omega, pk_us, fun i hi => ?_, fun i hi => ?_, ?_⟩
  · have := hlen r hr; omega
  · rw [pk_un (by omega)]; exact (hS r hr).1
  · have := hlen r hr
    rw [pk_un (by omega)]; exact (hS r hr).2 i hi
  · by_cases z : i = pn
    · subst z; rw [pk_us, pk_us]
    · rw [pk_un (by omega), pk_un (by omega)]; exact ey i (by omega)
  · by_cases z : i = pn
    · subst z; rw [eH, pk_us]; exact hk
    · have := tc_gs_c eT hg i (by omega)
      exact this
  · rw [tc_hg_s (pk_us (f := T) (k := 192 + pn) (x := t)), eH]
theorem yt_126 {post : Int32 → SY → Prop} {t : Int32} (hF : tc_Fx ns nc mr ct jn pn hn fn B H U lo up fa va me mt mo wi K A D R co T od S C L Y) (hp8 : pn < 8) (hk : tc_tk ns hn t) (hp : post (nI (if 22 < t then (if t = 30 then hn else hn - 1) else hn + 1)) ((nI ns), (nI nc), (nI mr), (nI jn), (nI ct), (nI fn), B, U, ya, yp, yb, S, C, K, A, D, upd L ct (nI (pn + 1)), upd Y (8 * ct + pn) t, ys, yr, fi)) : wY_token_126 post t (nI ns) (nI nc) (nI mr) (nI jn) (nI ct) (nI fn) B U ya yp yb S C K A D L Y ys yr fi := by
  have hF2 := zf_tok hF hp8 hk
  obtain ⟨⟨-, hn12, -, hnc, -, hmr, hct, -⟩, -, -, -, -, -, hP2, -, -⟩ := hF2
  obtain ⟨g1, g2⟩ := tc_PN_y hP2
  have el := hF.2.2.2.2.2.2.1.2.1
  have e : (nI ct).toNatClampNeg = ct := nI_clamp (by omega)
  have hi : vp_in (nI ct) 25 := vp_in_nI (by omega) (by decide)
  have ei : nI ct * (8 : Int32) + nI pn = nI (8 * ct + pn) := tc_i8' ct pn
  unfold wY_token_126
  rw [e, el, ei, nI_clamp (show 8 * ct + pn < 2 ^ 31 by omega), nI_1]
  refine ⟨hi, vp_in_nI (by omega) (by decide), nm_e ⟨hi, hi, nm_e ?_⟩⟩
  refine yh_height hn12 (by omega) (by omega) pk_us g1 ?_
  rw [g2]
  exact hp
theorem xt_113 {post : Int32 → SX → Prop} {t x2 x3 : Int32} (hp8 : pn < 8) (hb : (x2 = 1 ∧ x3 = 0 ∧ ¬ 22 < t) ∨ (x2 = 0 ∧ x3 = 0 ∧ t = 30) ∨ (x2 = 0 ∧ x3 = 1 ∧ 22 < t ∧ ¬ t = 30 ∧ 2 ≤ hn)) (hp : post (nI (if 22 < t then (if t = 30 then hn else hn - 1) else hn + 1)) ((nI ns), (nI nc), (nI mr), (nI ct), nI (pn + 1), nI (if 22 < t then (if t = 30 then hn else hn - 1) else hn + 1), dp, 15, (nI fn), B, H, U, lo, up, fa, va, me, mt, mo, wi, K, A, D, R, co, upd T (192 + pn) t, sk, ne, od, su, sv, fi)) : wX_token_113 post t x2 x3 (nI ns) (nI nc) (nI mr) (nI ct) (nI pn) (nI hn) dp 15 (nI fn) B H U lo up fa va me mt mo wi K A D R co T sk ne od su sv fi := by
  have ei : (192 : Int32) + nI pn = nI (192 + pn) := nI_add 192 pn
  unfold wX_token_113
  rw [ei, nI_clamp (show 192 + pn < 2 ^ 31 by omega)]
  refine ⟨vp_in_nI (by omega) (by decide), nm_e (nm_r (nI_1 pn) ?_)⟩
  rcases hb with ⟨e2, e3, h⟩ | ⟨e2, e3, h⟩ | ⟨e2, e3, h, h', h2⟩
  · rw [if_neg h] at hp
    exact br_f (by rw [e2]; decide) (nm_r (nI_1 hn) hp)
  · rw [if_pos (by rw [h]; decide), if_pos h] at hp
    exact br_t e2 (br_t e3 hp)
  · rw [if_pos h, if_neg h'] at hp
    exact br_t e2 (br_f (by rw [e3]; decide) (nm_r (pk_sub (b := 1) (by omega)) hp))
end
theorem i_vc_token {k : Nat} {u : SX} {v : SY} (I : i_Rel k u v) (hk : k + 4 ≤ 2051) (v1 : Int32) : wpX_token (fun r u' => wpY_token (fun r' v' => r' = r ∧ i_Rel (k + 4) u' v') v v1) u v1 := by
  refine zz_el (P := fun u v => wpX_token (fun r u' => wpY_token (fun r' v' => r' = r ∧ i_Rel (k + 4) u' v') v v1) u v1) ?_ I
  intro ns nc mr ct jn pn hn fn dp B H U lo up fa va me mt mo wi K A D R co T sk ne od su sv fi ya yp yb S C L Y ys yr hF
  have hF' := hF
  obtain ⟨⟨-, hn12, -, hnc, -, hmr, hct, -⟩, hR, hT, hS, hJ, hMe, hP, -, -⟩ := hF'
  obtain ⟨g1, g2⟩ := tc_PN_y hP
  obtain ⟨b1, b2⟩ := tc_PN_8 hn12 hP
  have el := hP.2.1
  have e : (nI ct).toNatClampNeg = ct := nI_clamp (by omega)
  have hi : vp_in (nI ct) 25 := vp_in_nI (by omega) (by decide)
  by_cases h40 : v1 = 40
  · refine br_t h40 ?_
    unfold wpX_dropPending
    refine br_t h40 ⟨hi, ?_⟩
    rw [e]
    refine nm_e ⟨rfl, ?_⟩
    refine zz_in (pn := 0) (hn := 0) (zf_pn hF (tc_SM_r ct R T) (fun r hr => ⟨?_, (hS r hr).2⟩) ⟨by omega, pk_us, fun i hi => absurd hi (by omega), fun i hi => absurd hi (by omega), rfl⟩)
    rw [pk_un (by omega)]; exact (hS r hr).1
  refine xt_a h40 ?_
  have hbad : (tc_op ns v1 = 0 ∧ tc_bi v1 = 0 ∧ ¬ v1 = 30) → wpY_token (fun r' v' => r' = -1 ∧ i_Rel (k + 4) ((nI ns), (nI nc), (nI mr), (nI ct), (nI pn), (nI hn), dp, 15, (nI fn), B, H, U, lo, up, fa, va, me, mt, mo, wi, K, A, D, R, co, T, sk, ne, od, su, sv, fi) v') ((nI ns), (nI nc), (nI mr), (nI jn), (nI ct), (nI fn), B, U, ya, yp, yb, S, C, K, A, D, L, Y, ys, yr, fi) v1 := by
    rintro ⟨a1, a2, a3⟩
    refine yt_a h40 ?_
    exact br_t a1 (br_t a2 (br_f a3 ⟨rfl, zz_in hF⟩))
  have h72 : (tc_op ns v1 = 1 ∧ tc_bi v1 = 0 ∧ ¬ 22 < v1 ∧ ¬ v1 = 30) ∨ (tc_op ns v1 = 0 ∧ tc_bi v1 = 0 ∧ v1 = 30) ∨ (tc_op ns v1 = 0 ∧ tc_bi v1 = 1 ∧ 22 < v1 ∧ ¬ v1 = 30) → (∀ h, (v1 = 30 → 1 ≤ h) → (tc_bi v1 = 1 → 2 ≤ h) → tc_tk ns h v1) →
      wX_token_72 (fun r u' => wpY_token (fun r' v' => r' = r ∧ i_Rel (k + 4) u' v') ((nI ns), (nI nc), (nI mr), (nI jn), (nI ct), (nI fn), B, U, ya, yp, yb, S, C, K, A, D, L, Y, ys, yr, fi) v1) v1 (tc_op ns v1) (tc_bi v1) (nI ns) (nI nc) (nI mr) (nI ct) (nI pn) (nI hn) dp 15 (nI fn) B H U lo up fa va me mt mo wi K A D R co T sk ne od su sv fi := by
    intro hcl htk
    have hY : ∀ post : Int32 → SY → Prop, wY_token_78 post v1 (tc_bi v1) (nI ns) (nI nc) (nI mr) (nI jn) (nI ct) (nI fn) B U ya yp yb S C K A D L Y ys yr fi → wpY_token post ((nI ns), (nI nc), (nI mr), (nI jn), (nI ct), (nI fn), B, U, ya, yp, yb, S, C, K, A, D, L, Y, ys, yr, fi) v1 := by
      intro post hp
      refine yt_a h40 ?_
      rcases hcl with ⟨c1, c2, c3, c4⟩ | ⟨c1, c2, c3⟩ | ⟨c1, c2, c3, c4⟩
      · exact br_f (by rw [c1]; decide) hp
      · exact br_t c1 (br_t c2 (br_t c3 hp))
      · exact br_t c1 (br_f (by rw [c2]; decide) hp)
    have hY78 : ∀ post : Int32 → SY → Prop, pn < 8 → ((v1 = 30 → (nI hn < 1 → post (-3) ((nI ns), (nI nc), (nI mr), (nI jn), (nI ct), (nI fn), B, U, ya, yp, yb, S, C, K, A, D, L, Y, ys, yr, fi)) ∧ (¬ nI hn < 1 → wY_token_113 post v1 (tc_bi v1) (nI hn) (nI ns) (nI nc) (nI mr) (nI jn) (nI ct) (nI fn) B U ya yp yb S C K A D L Y ys yr fi)) ∧ (¬ v1 = 30 → wY_token_113 post v1 (tc_bi v1) (nI hn) (nI ns) (nI nc) (nI mr) (nI jn) (nI ct) (nI fn) B U ya yp yb S C K A D L Y ys yr fi)) → wpY_token post ((nI ns), (nI nc), (nI mr), (nI jn), (nI ct), (nI fn), B, U, ya, yp, yb, S, C, K, A, D, L, Y, ys, yr, fi) v1 := by
      intro post hp8 hp
      refine hY post ?_
      unfold wY_token_78
      rw [e, el]
      refine ⟨hi, br_t (nI_lt (b := 8) hp8 (by decide)) ?_⟩
      refine yh_height hn12 (by omega) b2 el g1 ?_
      rw [g2]
      exact hp
    unfold wX_token_72
    by_cases hp8 : pn < 8
    · refine br_t (nI_lt (b := 8) hp8 (by decide)) ?_
      have hgo : tc_tk ns hn v1 → (∀ post : Int32 → SY → Prop, wY_token_113 post v1 (tc_bi v1) (nI hn) (nI ns) (nI nc) (nI mr) (nI jn) (nI ct) (nI fn) B U ya yp yb S C K A D L Y ys yr fi → wpY_token post ((nI ns), (nI nc), (nI mr), (nI jn), (nI ct), (nI fn), B, U, ya, yp, yb, S, C, K, A, D, L, Y, ys, yr, fi) v1) → ((tc_bi v1 = 0) ∨ (tc_bi v1 = 1 ∧ 2 ≤ hn)) → wX_token_98 (fun r u' => wpY_token (fun r' v' => r' = r ∧ i_Rel (k + 4) u' v') ((nI ns), (nI nc), (nI mr), (nI jn), (nI ct), (nI fn), B, U, ya, yp, yb, S, C, K, A, D, L, Y, ys, yr, fi) v1) v1 (tc_op ns v1) (tc_bi v1) (nI ns) (nI nc) (nI mr) (nI ct) (nI pn) (nI hn) dp 15 (nI fn) B H U lo up fa va me mt mo wi K A D R co T sk ne od su sv fi := by
        intro htk' hY3 hb3
        have h113 : wX_token_113 (fun r u' => wpY_token (fun r' v' => r' = r ∧ i_Rel (k + 4) u' v') ((nI ns), (nI nc), (nI mr), (nI jn), (nI ct), (nI fn), B, U, ya, yp, yb, S, C, K, A, D, L, Y, ys, yr, fi) v1) v1 (tc_op ns v1) (tc_bi v1) (nI ns) (nI nc) (nI mr) (nI ct) (nI pn) (nI hn) dp 15 (nI fn) B H U lo up fa va me mt mo wi K A D R co T sk ne od su sv fi := by
          refine xt_113 hp8 ?_ ?_
          · rcases hcl with ⟨c1, c2, c3, c4⟩ | ⟨c1, c2, c3⟩ | ⟨c1, c2, c3, c4⟩
            · exact Or.inl ⟨c1, c2, c3⟩
            · exact Or.inr (Or.inl ⟨c1, c2, c3⟩)
            · refine Or.inr (Or.inr ⟨c1, c2, c3, c4, ?_⟩)
              rcases hb3 with z | z
              · exact absurd (c2.symm.trans z) (by decide)
              · exact z.2
          · refine hY3 _ ?_
            have h126 : ∀ post : Int32 → SY → Prop, post (nI (if 22 < v1 then (if v1 = 30 then hn else hn - 1) else hn + 1)) ((nI ns), (nI nc), (nI mr), (nI jn), (nI ct), (nI fn), B, U, ya, yp, yb, S, C, K, A, D, upd L ct (nI (pn + 1)), upd Y (8 * ct + pn) v1, ys, yr, fi) → wY_token_113 post v1 (tc_bi v1) (nI hn) (nI ns) (nI nc) (nI mr) (nI jn) (nI ct) (nI fn) B U ya yp yb S C K A D L Y ys yr fi := by
              intro post hp
              rcases hb3 with z | ⟨z, z2⟩
              · exact br_t z (yt_126 hF hp8 htk' hp)
              · exact br_f (by rw [z]; decide) (br_t (nI_le (a := 2) z2 (by omega)) (yt_126 hF hp8 htk' hp))
            exact h126 _ ⟨rfl, zz_in (zf_tok hF hp8 htk')⟩
        rcases hb3 with z | ⟨z, z2⟩
        · exact br_t z h113
        · exact br_f (by rw [z]; decide) (br_t (nI_le (a := 2) z2 (by omega)) h113)
      by_cases h30 : v1 = 30
      · refine br_t h30 ?_
        have hb0 : tc_bi v1 = 0 := by
          rcases hcl with ⟨c1, c2, c3, c4⟩ | ⟨c1, c2, c3⟩ | ⟨c1, c2, c3, c4⟩
          · exact c2
          · exact c2
          · exact absurd h30 c4
        by_cases hh : hn < 1
        · have hlt : nI hn < 1 := nI_lt (b := 1) hh (by decide)
          refine br_t hlt (hY78 _ hp8 ?_)
          exact br_t h30 (br_t hlt ⟨rfl, zz_in hF⟩)
        · have hlt : ¬ nI hn < 1 := nI_nlt (b := 1) (by omega) (by omega)
          refine br_f hlt (hgo (htk hn (fun _ => by omega) (fun z => absurd (hb0.symm.trans z) (by decide))) (fun post hp => hY78 post hp8 (br_t h30 (br_f hlt hp))) (Or.inl hb0))
      · refine br_f h30 ?_
        have hY3 : ∀ post : Int32 → SY → Prop, wY_token_113 post v1 (tc_bi v1) (nI hn) (nI ns) (nI nc) (nI mr) (nI jn) (nI ct) (nI fn) B U ya yp yb S C K A D L Y ys yr fi → wpY_token post ((nI ns), (nI nc), (nI mr), (nI jn), (nI ct), (nI fn), B, U, ya, yp, yb, S, C, K, A, D, L, Y, ys, yr, fi) v1 := fun post hp => hY78 post hp8 (br_f h30 hp)
        by_cases hb : tc_bi v1 = 0
        · exact hgo (htk hn (fun z => absurd z h30) (fun z => absurd (hb.symm.trans z) (by decide))) hY3 (Or.inl hb)
        · have hb1 : tc_bi v1 = 1 := by
            rcases hcl with ⟨c1, c2, c3, c4⟩ | ⟨c1, c2, c3⟩ | ⟨c1, c2, c3, c4⟩
            · exact absurd c2 hb
            · exact absurd c2 hb
            · exact c2
          by_cases h2 : 2 ≤ hn
          · exact hgo (htk hn (fun z => absurd z h30) (fun _ => h2)) hY3 (Or.inr ⟨hb1, h2⟩)
          · have hge : ¬ (2 : Int32) ≤ nI hn := nI_ge (b := 2) (by omega) (by decide)
            refine br_f hb (br_f hge (hY3 _ ?_))
            exact br_f hb (br_f hge ⟨rfl, zz_in hF⟩)
    · have hge : ¬ nI pn < 8 := nI_nlt (b := 8) (by omega) (by omega)
      refine br_f hge (hY _ ?_)
      unfold wY_token_78
      rw [e, el]
      exact ⟨hi, br_f hge ⟨rfl, zz_in hF⟩⟩
  rcases tc_opb (t := v1) hn12 with (⟨c1, c2, c3, c4, c5⟩ | ⟨c1, c2, c3, c4, c5⟩) | ⟨c1, c2⟩
  · exact br_f (by rw [c1]; decide) (h72 (Or.inl ⟨c1, c2, c4, c3⟩) (fun h _ _ => c5 h))
  · exact br_t c1 (br_f (by rw [c2]; decide) (h72 (Or.inr (Or.inr ⟨c1, c2, c4, c3⟩)) (fun h _ z => c5 h (z c2))))
  · by_cases h30 : v1 = 30
    · exact br_t c1 (br_t c2 (br_t h30 (h72 (Or.inr (Or.inl ⟨c1, c2, h30⟩)) (fun h z _ => Or.inr (Or.inr (Or.inl ⟨h30, z h30⟩))))))
    · exact br_t c1 (br_t c2 (br_f h30 (hbad ⟨c1, c2, h30⟩)))
end
section
/-! settings -/
def tc_as (ns : Nat) (H U : Nat → Int32) (s : Nat) (v : Int32) : Nat → Int32 := fun j => if j = s then v else if v = 2 ∧ ¬ H s < 0 ∧ j < ns ∧ H j = H s ∧ U j = 2 then 3 else U j
section
variable {ns nc mr ct jn pn hn fn : Nat} {pl ph dp oc fl fz : Int32}
variable {B H U lo up fa va me mt mo wi K A D R co T sk ne od su sv fi ya yp yb S C L Y ys yr : Nat → Int32}
theorem xa_lp {post : SX → Prop} {s c : Nat} {v : Int32} {U0 : Nat → Int32} {M : Nat → List Nat} (hs : s < 12) (hc : c < 3) (hM : tc_MM M H) (hMe : tc_Me me mt M) (hp : ∀ U, (∀ j, U j = if j = s then v else if j ∈ M c ∧ U0 j = 2 then 3 else U0 j) → post ((nI ns), (nI nc), (nI mr), (nI ct), pl, ph, dp, oc, fl, B, H, U, lo, up, fa, va, me, mt, mo, wi, K, A, D, R, co, T, sk, ne, od, su, sv, fi)) :
    ∀ l2 l1 f U, M c = l1 ++ l2 → l2.length < f → (∀ j, U j = if j = s then v else if j ∈ l1 ∧ U0 j = 2 then 3 else U0 j) → wX_assign_27 post (nI s) (nI c) (nI ns) (nI nc) (nI mr) (nI ct) pl ph dp oc fl f (nI l1.length) B H U lo up fa va me mt mo wi K A D R co T sk ne od su sv fi := by
  obtain ⟨m1, m2, m3⟩ := hMe c hc
  have ec : (nI c).toNatClampNeg = c := nI_clamp (by omega)
  have hj : vp_in (nI c) 3 := vp_in_nI hc (by decide)
  intro l2
  induction l2 with
  | nil =>
    intro l1 f U hl hf h1
    obtain ⟨f, rfl⟩ : ∃ g, f = g + 1 := ⟨f - 1, by omega⟩
    rw [List.append_nil] at hl
    rw [← hl] at h1
    refine ⟨hj, br_t ?_ (hp U h1)⟩
    rw [ec, m1, hl]
    exact nI_le (Nat.le_refl _) (by rw [← hl]; omega)
  | cons m l2 ih =>
    intro l1 f U hl hf h1
    obtain ⟨f, rfl⟩ : ∃ g, f = g + 1 := ⟨f - 1, by omega⟩
    have hlen : (M c).length = l1.length + (l2.length + 1) := by rw [hl, List.length_append, List.length_cons]
    have hf' : l2.length + 1 < f + 1 := hf
    have hmm : m ∈ M c := by rw [hl]; exact List.mem_append_right _ List.mem_cons_self
    obtain ⟨hm, -⟩ := hM c hc m hmm
    have em : me ((12 : Int32) * nI c + nI l1.length).toNatClampNeg = nI m := (tc_cg (pk_cl (12 * c + l1.length) (tc_i12 c l1.length))).trans (m3 l1 m l2 hl)
    have es : (nI m).toNatClampNeg = m := nI_clamp (by omega)
    have hi : vp_in (nI m) 12 := vp_in_nI hm (by decide)
    have hmem : ∀ j, j ∈ l1 ++ [m] ↔ j ∈ l1 ∨ j = m := fun j => by rw [List.mem_append, List.mem_singleton]
    have hnext : ∀ U, (∀ j, U j = if j = s then v else if (j ∈ l1 ∨ j = m) ∧ U0 j = 2 then 3 else U0 j) → wX_assign_27 post (nI s) (nI c) (nI ns) (nI nc) (nI mr) (nI ct) pl ph dp oc fl f (nI (l1.length + 1)) B H U lo up fa va me mt mo wi K A D R co T sk ne od su sv fi := by
      intro U hU
      have := ih (l1 ++ [m]) f U (by rw [hl, List.append_assoc]; rfl) (by omega) (fun j => by
        rw [hU j]
        by_cases z : (j ∈ l1 ∨ j = m)
        · have z' := (hmem j).mpr z
          by_cases w : U0 j = 2
          · rw [if_pos (⟨z, w⟩ : (j ∈ l1 ∨ j = m) ∧ U0 j = 2), if_pos (⟨z', w⟩ : j ∈ l1 ++ [m] ∧ U0 j = 2)]
          · rw [if_neg (fun y : (j ∈ l1 ∨ j = m) ∧ U0 j = 2 => w y.2), if_neg (fun y : j ∈ l1 ++ [m] ∧ U0 j = 2 => w y.2)]
        · rw [if_neg (fun y : (j ∈ l1 ∨ j = m) ∧ U0 j = 2 => z y.1), if_neg (fun y : j ∈ l1 ++ [m] ∧ U0 j = 2 => z ((hmem j).mp y.1))])
      rw [List.length_append] at this
      exact this
    refine ⟨hj, br_f ?_ ⟨pk_in (12 * c + l1.length) 36 (by omega) (tc_i12 c l1.length), nm_r em ?_⟩⟩
    · rw [ec, m1]; exact nI_ge (by omega) (by omega)
    by_cases hms : m = s
    · refine br_t (by rw [hms]) (nm_r (nI_1 _) (hnext U (fun j => ?_)))
      rw [h1 j]
      by_cases z : j = s
      · rw [if_pos z, if_pos z]
      · rw [if_neg z, if_neg z]
        by_cases w : j ∈ l1 ∧ U0 j = 2
        · rw [if_pos w, if_pos (⟨Or.inl w.1, w.2⟩ : (j ∈ l1 ∨ j = m) ∧ U0 j = 2)]
        · rw [if_neg w, if_neg (fun y : (j ∈ l1 ∨ j = m) ∧ U0 j = 2 => by
            rcases y.1 with y1 | y1
            · exact w ⟨y1, y.2⟩
            · exact z (y1.trans hms))]
    · refine br_f (fun y => hms ((nI_eq (by omega) (by omega)).mp y)) ⟨hi, ?_⟩
      rw [es]
      have hUm := h1 m
      rw [if_neg hms] at hUm
      by_cases h2 : U m = 2
      · have h0m : U0 m = 2 := by
          by_cases w : m ∈ l1 ∧ U0 m = 2
          · exact w.2
          · rw [if_neg w] at hUm; exact hUm.symm.trans h2
        refine br_t h2 ⟨hi, nm_e (nm_r (nI_1 _) (hnext _ (fun j => ?_)))⟩
        by_cases z : j = m
        · subst z
          rw [pk_us, if_neg hms, if_pos (⟨Or.inr rfl, h0m⟩ : (j ∈ l1 ∨ j = j) ∧ U0 j = 2)]
        · rw [pk_un z, h1 j]
          by_cases w : j ∈ l1 ∧ U0 j = 2
          · rw [if_pos w, if_pos (⟨Or.inl w.1, w.2⟩ : (j ∈ l1 ∨ j = m) ∧ U0 j = 2)]
          · rw [if_neg w, if_neg (fun y : (j ∈ l1 ∨ j = m) ∧ U0 j = 2 => by
              rcases y.1 with y1 | y1
              · exact w ⟨y1, y.2⟩
              · exact z y1)]
      · refine br_f h2 (nm_r (nI_1 _) (hnext U (fun j => ?_)))
        rw [h1 j]
        by_cases z : j = s
        · rw [if_pos z, if_pos z]
        · rw [if_neg z, if_neg z]
          by_cases w : j ∈ l1 ∧ U0 j = 2
          · rw [if_pos w, if_pos (⟨Or.inl w.1, w.2⟩ : (j ∈ l1 ∨ j = m) ∧ U0 j = 2)]
          · by_cases y : j = m ∧ U0 j = 2
            · rw [if_neg w] at *
              obtain ⟨rfl, y2⟩ := y
              rw [if_neg w] at hUm
              exact absurd (hUm.trans y2) h2
            · rw [if_neg w, if_neg (fun x : (j ∈ l1 ∨ j = m) ∧ U0 j = 2 => by
                rcases x.1 with x1 | x1
                · exact w ⟨x1, x.2⟩
                · exact y ⟨x1, x.2⟩)]
theorem xa_assign {post : SX → Prop} {s : Nat} {v : Int32} (hn : ns ≤ 12) (hnc : nc ≤ 3) (hJ : tc_GJ ns nc jn S C H) (hMe : tc_Me me mt (tc_M S C jn)) (hs : s < ns) (hp : post ((nI ns), (nI nc), (nI mr), (nI ct), pl, ph, dp, oc, fl, B, H, tc_as ns H U s v, lo, up, fa, va, me, mt, mo, wi, K, A, D, R, co, T, sk, ne, od, su, sv, fi)) : wpX_assign post ((nI ns), (nI nc), (nI mr), (nI ct), pl, ph, dp, oc, fl, B, H, U, lo, up, fa, va, me, mt, mo, wi, K, A, D, R, co, T, sk, ne, od, su, sv, fi) (nI s) v := by
  have e : (nI s).toNatClampNeg = s := nI_clamp (by omega)
  have hi : vp_in (nI s) 12 := vp_in_nI (by omega) (by decide)
  refine And.intro hi (nm_r (e' := upd U s v) (by rw [e]) ⟨hi, nm_r (tc_cg e) ?_⟩)
  have hsame : (¬ v = 2 ∨ H s < 0) → upd U s v = tc_as ns H U s v := by
    intro h
    funext j
    unfold tc_as
    by_cases z : j = s
    · rw [z, pk_us, if_pos rfl]
    · rw [pk_un z, if_neg z, if_neg (fun y => h.elim (fun h => h y.1) (fun h => y.2.1 h))]
  by_cases h2 : v = 2
  · refine br_t h2 ?_
    by_cases h0 : H s < 0
    · refine br_f (Int32.not_le.mpr h0) ?_
      rw [hsame (Or.inr h0)]
      exact hp
    · refine br_t (Int32.not_lt.mp h0) ?_
      rcases tc_GJ_H hJ s (by omega) with z | ⟨c, hcc, z⟩
      · rw [z] at h0; exact absurd tc_m1 h0
      · rw [z]
        refine ⟨(tc_M S C jn c).length + 1, xa_lp (U0 := U) (v := v) (M := tc_M S C jn) (by omega) (show c < 3 by omega) (tc_GJ_M hJ hn hnc) hMe (fun U' hU' => ?_) (tc_M S C jn c) [] _ (upd U s v) rfl (by omega) (fun j => ?_)⟩
        · have : U' = tc_as ns H U s v := by
            funext j
            rw [hU' j]
            unfold tc_as
            by_cases w : j = s
            · rw [if_pos w, if_pos w]
            · rw [if_neg w, if_neg w]
              have hm := tc_GJ_m hJ hn hnc (c := c) (m := j) (by omega)
              by_cases y : j ∈ tc_M S C jn c ∧ U j = 2
              · rw [if_pos y, if_pos ⟨h2, h0, (hm.mp y.1).1, (hm.mp y.1).2.trans z.symm, y.2⟩]
              · rw [if_neg y, if_neg (fun x => y ⟨hm.mpr ⟨x.2.2.1, x.2.2.2.1.trans z⟩, x.2.2.2.2⟩)]
          rw [this]
          exact hp
        · by_cases w : j = s
          · rw [w, pk_us, if_pos rfl]
          · rw [pk_un w, if_neg w, if_neg (fun x => List.not_mem_nil x.1)]
  · refine br_f h2 ?_
    rw [hsame (Or.inl h2)]
    exact hp
theorem ya_lp {post : SY → Prop} {s : Nat} {v : Int32} {U0 : Nat → Int32} (hn : ns ≤ 12) (hJ : tc_GJ ns nc jn S C H) (hs : s < ns) (hp : post ((nI ns), (nI nc), (nI mr), (nI jn), (nI ct), fz, B, tc_as ns H U0 s v, ya, yp, yb, S, C, K, A, D, L, Y, ys, yr, fi)) :
    ∀ d i f U, i + d = ns → d < f → (∀ j, U j = if j < i ∧ ¬ j = s ∧ v = 2 ∧ ¬ H s < 0 ∧ H j = H s ∧ U0 j = 2 then 3 else U0 j) → wY_change_9 post (nI s) v (H s) (nI ns) (nI nc) (nI mr) (nI jn) (nI ct) fz f (nI i) B U ya yp yb S C K A D L Y ys yr fi := by
  have e : (nI s).toNatClampNeg = s := nI_clamp (by omega)
  have his : vp_in (nI s) 12 := vp_in_nI (by omega) (by decide)
  intro d
  induction d with
  | zero =>
    intro i f U hd hf h1
    obtain ⟨f, rfl⟩ : ∃ g, f = g + 1 := ⟨f - 1, by omega⟩
    obtain rfl : i = ns := by omega
    refine br_t (nI_le (Nat.le_refl _) (by omega)) ⟨his, nm_r (e' := tc_as i H U0 s v) ?_ hp⟩
    rw [e]
    funext j
    unfold tc_as
    by_cases z : j = s
    · rw [z, pk_us, if_pos rfl]
    · rw [pk_un z, if_neg z, h1 j]
      by_cases w : j < i ∧ ¬ j = s ∧ v = 2 ∧ ¬ H s < 0 ∧ H j = H s ∧ U0 j = 2
      · rw [if_pos w, if_pos ⟨w.2.2.1, w.2.2.2.1, w.1, w.2.2.2.2.1, w.2.2.2.2.2⟩]
      · rw [if_neg w, if_neg (fun x => w ⟨x.2.2.1, z, x.1, x.2.1, x.2.2.2.1, x.2.2.2.2⟩)]
  | succ d ih =>
    intro i f U hd hf h1
    obtain ⟨f, rfl⟩ : ∃ g, f = g + 1 := ⟨f - 1, by omega⟩
    have ei : (nI i).toNatClampNeg = i := nI_clamp (by omega)
    have hi : vp_in (nI i) 12 := vp_in_nI (by omega) (by decide)
    have hskip : ¬ (¬ i = s ∧ v = 2 ∧ ¬ H s < 0 ∧ H i = H s ∧ U0 i = 2) → wY_change_9 post (nI s) v (H s) (nI ns) (nI nc) (nI mr) (nI jn) (nI ct) fz f (nI (i + 1)) B U ya yp yb S C K A D L Y ys yr fi := by
      intro hno
      refine ih (i + 1) f U (by omega) (by omega) (fun j => ?_)
      rw [h1 j]
      by_cases w : j < i ∧ ¬ j = s ∧ v = 2 ∧ ¬ H s < 0 ∧ H j = H s ∧ U0 j = 2
      · rw [if_pos w, if_pos ⟨by omega, w.2⟩]
      · rw [if_neg w, if_neg (fun x => by
          by_cases y : j = i
          · subst y; exact hno x.2
          · exact w ⟨by omega, x.2⟩)]
    refine br_f (nI_ge (by omega) (by omega)) ?_
    by_cases h2 : v = 2
    · refine br_t h2 ?_
      by_cases h0 : H s < 0
      · exact br_t h0 (nm_r (nI_1 i) (hskip (fun x => x.2.2.1 h0)))
      · refine br_f h0 ?_
        by_cases his2 : i = s
        · exact br_t (by rw [his2]) (nm_r (nI_1 i) (hskip (fun x => x.1 his2)))
        · refine br_f (fun y => his2 ((nI_eq (by omega) (by omega)).mp y)) ?_
          refine yj_ch hJ (by omega) ?_
          by_cases hH : H i = H s
          · refine br_t hH ⟨hi, ?_⟩
            rw [ei]
            have hUi : U i = U0 i := by rw [h1 i, if_neg (fun x => by omega)]
            by_cases hu : U i = 2
            · refine br_t hu ⟨hi, nm_e (nm_r (nI_1 i) (ih (i + 1) f _ (by omega) (by omega) (fun j => ?_)))⟩
              by_cases y : j = i
              · subst y
                rw [pk_us, if_pos ⟨by omega, his2, h2, h0, hH, hUi.symm.trans hu⟩]
              · rw [pk_un y, h1 j]
                by_cases w : j < i ∧ ¬ j = s ∧ v = 2 ∧ ¬ H s < 0 ∧ H j = H s ∧ U0 j = 2
                · rw [if_pos w, if_pos ⟨by omega, w.2⟩]
                · rw [if_neg w, if_neg (fun x => w ⟨by omega, x.2⟩)]
            · exact br_f hu (nm_r (nI_1 i) (hskip (fun x => hu (hUi.trans x.2.2.2.2))))
          · exact br_f hH (nm_r (nI_1 i) (hskip (fun x => hH x.2.2.2.1)))
    · exact br_f h2 (nm_r (nI_1 i) (hskip (fun x => h2 x.2.1)))
theorem ya_change {post : SY → Prop} {s : Nat} {v : Int32} (hn : ns ≤ 12) (hJ : tc_GJ ns nc jn S C H) (hs : s < ns) (hp : post ((nI ns), (nI nc), (nI mr), (nI jn), (nI ct), fz, B, tc_as ns H U s v, ya, yp, yb, S, C, K, A, D, L, Y, ys, yr, fi)) : wpY_change post ((nI ns), (nI nc), (nI mr), (nI jn), (nI ct), fz, B, U, ya, yp, yb, S, C, K, A, D, L, Y, ys, yr, fi) (nI s) v := by
  unfold wpY_change
  refine yj_ch hJ (by omega) ?_
  exact ⟨ns + 1, ya_lp hn hJ hs hp ns 0 (ns + 1) U (by omega) (by omega) (fun j => (if_neg (fun x => by omega)).symm)⟩
end
theorem i_vc_set {k : Nat} {u : SX} {v : SY} (I : i_Rel k u v) (hk : k + 4 ≤ 2051) (v1 : Int32) (v2 : Int32) : wpX_set (fun r u' => wpY_set (fun r' v' => r' = r ∧ i_Rel (k + 4) u' v') v v1 v2) u v1 v2 := by
  refine zz_el (P := fun u v => wpX_set (fun r u' => wpY_set (fun r' v' => r' = r ∧ i_Rel (k + 4) u' v') v v1 v2) u v1 v2) ?_ I
  intro ns nc mr ct jn pn hn fn dp B H U lo up fa va me mt mo wi K A D R co T sk ne od su sv fi ya yp yb S C L Y ys yr hF
  have hF' := hF
  obtain ⟨⟨-, hn12, -, hnc, -, hmr, hct, -⟩, hR, hT, hS, hJ, hMe, hP, -, -⟩ := hF'
  unfold wpX_set
  refine xi_sym hn12 (fun j hj e => ?_) (fun h => ?_)
  rotate_left
  · refine br_t rfl ?_
    unfold wpY_set
    refine yi_sym hn12 (fun j hj e => absurd ⟨j, hj, e⟩ h) (fun _ => ?_)
    exact br_t rfl ⟨rfl, zz_in hF⟩
  subst e
  have ej : (nI j).toNatClampNeg = j := nI_clamp (by omega)
  have hi : vp_in (nI j) 12 := vp_in_nI (by omega) (by decide)
  have hY : ∀ post : Int32 → SY → Prop, ((v2 < 0 → post (-1) ((nI ns), (nI nc), (nI mr), (nI jn), (nI ct), (nI fn), B, U, ya, yp, yb, S, C, K, A, D, L, Y, ys, yr, fi)) ∧ (¬ v2 < 0 → ((v2 ≤ 3 → (vp_in (nI j) 12 ∧ ((B (nI j).toNatClampNeg = 0 → wY_set_36 post (nI j) v2 (nI ns) (nI nc) (nI mr) (nI jn) (nI ct) (nI fn) B U ya yp yb S C K A D L Y ys yr fi) ∧ (¬ B (nI j).toNatClampNeg = 0 → ((v2 = 1 → post (-8) ((nI ns), (nI nc), (nI mr), (nI jn), (nI ct), (nI fn), B, U, ya, yp, yb, S, C, K, A, D, L, Y, ys, yr, fi)) ∧ (¬ v2 = 1 → wY_set_36 post (nI j) v2 (nI ns) (nI nc) (nI mr) (nI jn) (nI ct) (nI fn) B U ya yp yb S C K A D L Y ys yr fi)))))) ∧ (¬ v2 ≤ 3 → post (-1) ((nI ns), (nI nc), (nI mr), (nI jn), (nI ct), (nI fn), B, U, ya, yp, yb, S, C, K, A, D, L, Y, ys, yr, fi))))) → wpY_set post ((nI ns), (nI nc), (nI mr), (nI jn), (nI ct), (nI fn), B, U, ya, yp, yb, S, C, K, A, D, L, Y, ys, yr, fi) (nI j) v2 := by
    intro post hp
    unfold wpY_set
    refine yi_sym hn12 (fun _ _ _ => ?_) (fun h => absurd ⟨j, hj, rfl⟩ h)
    exact br_f (by decide) hp
  refine br_f (by decide) ?_
  by_cases h0 : v2 < 0
  · refine br_t h0 (hY _ ?_)
    exact br_t h0 ⟨rfl, zz_in hF⟩
  · refine br_f h0 ?_
    by_cases h3 : v2 ≤ 3
    · refine br_t h3 ⟨hi, ?_⟩
      have h36 : (∀ post : Int32 → SY → Prop, wY_set_36 post (nI j) v2 (nI ns) (nI nc) (nI mr) (nI jn) (nI ct) (nI fn) B U ya yp yb S C K A D L Y ys yr fi → wpY_set post ((nI ns), (nI nc), (nI mr), (nI jn), (nI ct), (nI fn), B, U, ya, yp, yb, S, C, K, A, D, L, Y, ys, yr, fi) (nI j) v2) → wX_set_36 (fun r u' => wpY_set (fun r' v' => r' = r ∧ i_Rel (k + 4) u' v') ((nI ns), (nI nc), (nI mr), (nI jn), (nI ct), (nI fn), B, U, ya, yp, yb, S, C, K, A, D, L, Y, ys, yr, fi) (nI j) v2) (nI j) v2 (nI ns) (nI nc) (nI mr) (nI ct) (nI pn) (nI hn) dp 15 (nI fn) B H U lo up fa va me mt mo wi K A D R co T sk ne od su sv fi := by
        intro hZ
        unfold wX_set_36
        refine xa_assign hn12 hnc hJ hMe hj ?_
        refine zr_rec hF (fun co' dp sk lo' up' fa' va' mo' wi' hF2 => ⟨hi, ?_⟩)
        refine hZ _ ?_
        unfold wY_set_36
        refine ya_change hn12 hJ hj ?_
        refine zy_set hF2 (fun ya ys hy => ⟨hi, ?_, zz_in hF2⟩)
        rw [ej]
        exact hy j hj
      by_cases hb : B (nI j).toNatClampNeg = 0
      · exact br_t hb (h36 (fun post hp => hY post (br_f h0 (br_t h3 ⟨hi, br_t hb hp⟩))))
      · refine br_f hb ?_
        by_cases h1 : v2 = 1
        · refine br_t h1 (hY _ ?_)
          exact br_f h0 (br_t h3 ⟨hi, br_f hb (br_t h1 ⟨rfl, zz_in hF⟩)⟩)
        · exact br_f h1 (h36 (fun post hp => hY post (br_f h0 (br_t h3 ⟨hi, br_f hb (br_f h1 hp)⟩))))
    · refine br_f h3 (hY _ ?_)
      exact br_f h0 (br_f h3 ⟨rfl, zz_in hF⟩)
end
section
/-! joining a choice -/
section
variable {ns nc mr ct jn pn hn fn : Nat} {pl ph dp oc fl fz : Int32}
variable {B H U lo up fa va me mt mo wi K A D R co T sk ne od su sv fi ya yp yb S C L Y ys yr : Nat → Int32}
theorem yn_lp {post : Int32 → SY → Prop} {c : Nat} (hj : jn ≤ 12) : ∀ d i f x, i + d = jn → d < f → post (nI (x + (tc_ml S C (nI c) d i).length)) ((nI ns), (nI nc), (nI mr), (nI jn), (nI ct), fz, B, U, ya, yp, yb, S, C, K, A, D, L, Y, ys, yr, fi) → wY_join_109 post (nI c) (nI ns) (nI nc) (nI mr) (nI jn) (nI ct) fz B U ya yp yb S C K A D L Y ys yr fi f (nI x) (nI i) := by
  intro d
  induction d with
  | zero =>
    intro i f x hi hf hp
    obtain ⟨f, rfl⟩ : ∃ g, f = g + 1 := ⟨f - 1, by omega⟩
    exact br_t (nI_le (by omega) (by omega)) hp
  | succ d ih =>
    intro i f x hi hf hp
    obtain ⟨f, rfl⟩ : ∃ g, f = g + 1 := ⟨f - 1, by omega⟩
    have e : (nI i).toNatClampNeg = i := nI_clamp (by omega)
    refine br_f (nI_ge (by omega) (by omega)) ⟨vp_in_nI (by omega) (by decide), ?_⟩
    rw [e]
    by_cases h : C i = nI c
    · have em : tc_ml S C (nI c) (d + 1) i = (S i).toNatClampNeg :: tc_ml S C (nI c) d (i + 1) := if_pos h
      rw [em, List.length_cons, show x + ((tc_ml S C (nI c) d (i + 1)).length + 1) = (x + 1) + (tc_ml S C (nI c) d (i + 1)).length by omega] at hp
      exact br_t h (nm_r (nI_1 x) (nm_r (nI_1 i) (ih (i + 1) f (x + 1) (by omega) (by omega) hp)))
    · have em : tc_ml S C (nI c) (d + 1) i = tc_ml S C (nI c) d (i + 1) := if_neg h
      rw [em] at hp
      exact br_f h (nm_r (nI_1 i) (ih (i + 1) f x (by omega) (by omega) hp))
/-- the facts after a failed join -/
theorem zj_f {x y : Int32} {od' : Nat → Int32} {rk : Nat → Nat} (hF : tc_Fx ns nc mr ct jn pn hn fn B H U lo up fa va me mt mo wi K A D R co T od S C L Y) (hrk : tc_RK ns ct K A D H R T rk) (hod : tc_OD od' rk) : tc_Fx ns nc mr ct jn pn hn fn B H U lo up fa va me mt mo wi K A D R co T od' (upd S jn x) (upd C jn y) L Y := by
  obtain ⟨hd, hR, hT, hS, hJ, hMe, hP, -, hSe⟩ := hF
  refine ⟨hd, hR, hT, hS, tc_GJ_f hJ, ?_, hP, ⟨rk, hrk, hod⟩, ?_⟩
  · rw [tc_M_f]; exact hMe
  · rw [tc_M_f]; exact hSe
end
theorem i_vc_join {k : Nat} {u : SX} {v : SY} (I : i_Rel k u v) (hk : k + 4 ≤ 2051) (v1 : Int32) (v2 : Int32) : wpX_join (fun r u' => wpY_join (fun r' v' => r' = r ∧ i_Rel (k + 4) u' v') v v1 v2) u v1 v2 := by
  refine zz_el (P := fun u v => wpX_join (fun r u' => wpY_join (fun r' v' => r' = r ∧ i_Rel (k + 4) u' v') v v1 v2) u v1 v2) ?_ I
  intro ns nc mr ct jn pn hn fn dp B H U lo up fa va me mt mo wi K A D R co T sk ne od su sv fi ya yp yb S C L Y ys yr hF
  have hF' := hF
  obtain ⟨⟨hd1, hn12, hd2, hnc, hd3, hmr, hct, hd4⟩, hR, hT, hS, hJ, hMe, hP, ⟨rk0, hrk0, hod0⟩, hSe⟩ := hF'
  unfold wpX_join
  refine xi_cho hnc (fun c hc ec => ?_) (fun h => ?_)
  rotate_left
  · refine br_t rfl ?_
    unfold wpY_join
    refine yi_cho hnc (fun j hj e => absurd ⟨j, hj, e⟩ h) (fun _ => ?_)
    exact br_t rfl ⟨rfl, zz_in hF⟩
  refine br_f (by decide) ?_
  refine xi_sym hn12 (fun s hs es => ?_) (fun h => ?_)
  rotate_left
  · refine br_t rfl ?_
    unfold wpY_join
    refine yi_cho hnc (fun _ _ _ => ?_) (fun h => absurd ⟨c, hc, ec⟩ h)
    refine br_f (by decide) ?_
    refine yi_sym hn12 (fun j hj e => absurd ⟨j, hj, e⟩ h) (fun _ => ?_)
    exact br_t rfl ⟨rfl, zz_in hF⟩
  subst ec es
  have e : (nI s).toNatClampNeg = s := nI_clamp (by omega)
  have ec : (nI c).toNatClampNeg = c := nI_clamp (by omega)
  have hi : vp_in (nI s) 12 := vp_in_nI (by omega) (by decide)
  have hic : vp_in (nI c) 3 := vp_in_nI (by omega) (by decide)
  refine br_f (by decide) ⟨hi, ?_⟩
  rw [e]
  by_cases hH : H s < 0
  rotate_left
  · refine br_f hH ?_
    unfold wpY_join
    refine yi_cho hnc (fun _ _ _ => ?_) (fun h => absurd ⟨c, hc, rfl⟩ h)
    refine br_f (by decide) ?_
    refine yi_sym hn12 (fun _ _ _ => ?_) (fun h => absurd ⟨s, hs, rfl⟩ h)
    refine br_f (by decide) ?_
    refine yj_ch hJ (by omega) ?_
    exact br_f hH ⟨rfl, zz_in hF⟩
  refine br_t hH ⟨hi, ?_⟩
  by_cases hU : U s = 3
  rotate_left
  · refine br_f hU ?_
    unfold wpY_join
    refine yi_cho hnc (fun _ _ _ => ?_) (fun h => absurd ⟨c, hc, rfl⟩ h)
    refine br_f (by decide) ?_
    refine yi_sym hn12 (fun _ _ _ => ?_) (fun h => absurd ⟨s, hs, rfl⟩ h)
    refine br_f (by decide) ?_
    refine yj_ch hJ (by omega) ?_
    refine br_t hH ⟨hi, ?_⟩
    rw [e]
    exact br_f hU ⟨rfl, zz_in hF⟩
  refine br_t hU ⟨hi, nm_e ?_⟩
  have hj12 := tc_GJ_r hJ (show s < 12 by omega) hH
  have hJ' := tc_GJ_j hJ hn12 hnc hs hc hH
  have ejn : (nI jn).toNatClampNeg = jn := nI_clamp (by omega)
  have hij : vp_in (nI jn) 12 := vp_in_nI hj12 (by decide)
  have hYT := tc_SM_T hS hT
  have hY : ∀ post : Int32 → SY → Prop, ((∃ rk, tc_RK ns ct K A D (upd H s (nI c)) R T rk) → ∀ yr, ∃ n, wY_join_109 post (nI c) (nI ns) (nI nc) (nI mr) (nI (jn + 1)) (nI ct) (nI fn) B U ya yp yb (upd S jn (nI s)) (upd C jn (nI c)) K A D L Y ys yr fi n 0 0) → ((¬ ∃ rk, tc_RK ns ct K A D (upd H s (nI c)) R T rk) → ∀ yr, post (-5) ((nI ns), (nI nc), (nI mr), (nI jn), (nI ct), (nI fn), B, U, ya, yp, yb, upd S jn (nI s), upd C jn (nI c), K, A, D, L, Y, ys, yr, fi)) → wpY_join post ((nI ns), (nI nc), (nI mr), (nI jn), (nI ct), (nI fn), B, U, ya, yp, yb, S, C, K, A, D, L, Y, ys, yr, fi) (nI c) (nI s) := by
    intro post h0 h1
    unfold wpY_join
    refine yi_cho hnc (fun _ _ _ => ?_) (fun h => absurd ⟨c, hc, rfl⟩ h)
    refine br_f (by decide) ?_
    refine yi_sym hn12 (fun _ _ _ => ?_) (fun h => absurd ⟨s, hs, rfl⟩ h)
    refine br_f (by decide) ?_
    refine yj_ch hJ (by omega) ?_
    refine br_t hH ⟨hi, ?_⟩
    rw [e]
    refine br_t hU (br_t (nI_lt (b := 12) hj12 (by decide)) ⟨hij, nm_r (e' := upd S jn (nI s)) (by rw [ejn]) ⟨hij, nm_r (e' := upd C jn (nI c)) (by rw [ejn]) (nm_r (nI_1 jn) ?_)⟩⟩)
    refine yq_rec (by omega) hn12 hnc hJ' hR hYT (fun ⟨rk, hrk⟩ yr => ?_) (fun hno yr => ?_)
    · exact br_t rfl (h0 ⟨rk, (tc_SM_rk hS).mpr hrk⟩ yr)
    · exact br_f (by decide) (nm_r (nI_pred jn) (h1 (fun ⟨rk, hrk⟩ => hno ⟨rk, (tc_SM_rk hS).mp hrk⟩) yr))
  refine xo_sort (by omega) hn12 hnc (tc_GJ_H hJ') hR hT (fun ne od rk hrk hod => ?_) (fun ne oc od hno => ?_)
  · obtain ⟨mt1, mt2, mt3⟩ := hMe c (by omega)
    have em : (12 : Int32) * nI c + nI (tc_M S C jn c).length = nI (12 * c + (tc_M S C jn c).length) := tc_i12 c _
    have hl : (tc_M S C jn c).length ≤ jn := tc_ml_l jn 0
    refine br_f (by decide) ⟨hic, ?_⟩
    rw [ec, mt1, em, nI_clamp (show 12 * c + (tc_M S C jn c).length < 2 ^ 31 by omega), nI_1]
    refine ⟨vp_in_nI (by omega) (by decide), nm_e ⟨hic, hic, nm_e ?_⟩⟩
    have hMe' := tc_Me_j (s := s) (c := c) hMe hj12 (by omega) (by omega)
    refine zx_rec (by omega) hn12 hnc hR hT hJ' hMe' hrk hod (fun co dp sk lo up fa va mo wi hSe' => ⟨hic, ?_⟩)
    rw [pk_us]
    refine hY _ (fun _ yr => ⟨jn + 2, ?_⟩) (fun hno => absurd ⟨rk, hrk⟩ hno)
    refine yn_lp (x := 0) (by omega) (jn + 1) 0 (jn + 2) (by omega) (by omega) ⟨?_, ?_⟩
    · have := tc_M_j (jn := jn) (s := s) (c := c) (q := c) (S := S) (C := C) (by omega) (by omega) (by omega)
      rw [if_pos rfl] at this
      show nI (0 + (tc_M (upd S jn (nI s)) (upd C jn (nI c)) (jn + 1) c).length) = _
      rw [this, List.length_append, Nat.zero_add]
      rfl
    · exact zz_in ⟨⟨hd1, hn12, hd2, hnc, hd3, hmr, hct, hd4⟩, hR, hT, hS, hJ', hMe', hP, ⟨rk, hrk, hod⟩, hSe'⟩
  · have eH : upd (upd H s (nI c)) s (-1) = H := by
      funext j
      by_cases z : j = s
      · rw [z, pk_us]
        rcases tc_GJ_H hJ s (by omega) with w | ⟨c', hc', w⟩
        · exact w.symm
        · rw [w] at hH; exact absurd hH (nI_pos (by omega))
      · rw [pk_un z, pk_un z]
    refine br_t rfl ⟨hi, ?_⟩
    rw [eH]
    refine nm_e ?_
    refine xo_sort (by omega) hn12 hnc (tc_GJ_H hJ) hR hT (fun ne od rk hrk hod => ?_) (fun ne oc od h => absurd ⟨rk0, hrk0⟩ h)
    refine hY _ (fun h => absurd h hno) (fun _ yr => ⟨rfl, ?_⟩)
    exact zz_in (zj_f hF hrk hod)
end
section
/-! a new rule -/
def tc_ag (ct : Nat) (K A D K' A' D' : Nat → Int32) : Prop := ∀ r, r < ct → K r = K' r ∧ A r = A' r ∧ D r = D' r
theorem tc_ls_k {K A K' A' c : Nat → Int32} {kd a : Int32} : ∀ d r x, (∀ q, r ≤ q → q < r + d → K q = K' q ∧ A q = A' q) → tc_ls K A c kd a d r x = tc_ls K' A' c kd a d r x
  | 0, _, _, _ => rfl
  | d + 1, r, x, h => by
    show tc_ls K A c kd a d (r + 1) (if K r = kd then (if A r = a then tc_mn x (c r) else x) else x) = tc_ls K' A' c kd a d (r + 1) (if K' r = kd then (if A' r = a then tc_mn x (c r) else x) else x)
    rw [(h r (by omega) (by omega)).1, (h r (by omega) (by omega)).2]
    exact tc_ls_k d (r + 1) _ (fun q h1 h2 => h q (by omega) (by omega))
theorem tc_gr_k {K D A K' D' A' c v : Nat → Int32} {kd b : Int32} : ∀ d r x, (∀ q, r ≤ q → q < r + d → K q = K' q ∧ A q = A' q ∧ D q = D' q) → tc_gr K D A c v kd b d r x = tc_gr K' D' A' c v kd b d r x
  | 0, _, _, _ => rfl
  | d + 1, r, x, h => by
    show tc_gr K D A c v kd b d (r + 1) (if K r = kd then (if D r = b then tc_mx x (tc_mn (v (A r).toNatClampNeg) (c r)) else x) else x) = tc_gr K' D' A' c v kd b d (r + 1) (if K' r = kd then (if D' r = b then tc_mx x (tc_mn (v (A' r).toNatClampNeg) (c r)) else x) else x)
    rw [(h r (by omega) (by omega)).1, (h r (by omega) (by omega)).2.1, (h r (by omega) (by omega)).2.2]
    exact tc_gr_k d (r + 1) _ (fun q h1 h2 => h q (by omega) (by omega))
theorem tc_df_k {K A D K' A' D' c : Nat → Int32} {s : Int32} : ∀ d r, (∀ q, r ≤ q → q < r + d → K q = K' q ∧ A q = A' q ∧ D q = D' q) → tc_df K A D c s d r = tc_df K' A' D' c s d r
  | 0, _, _ => rfl
  | d + 1, r, h => by
    show (if K r = 1 then (if A r = s then (if c r = 0 then tc_df K A D c s d (r + 1) else tc_mn (D r) (c r)) else tc_df K A D c s d (r + 1)) else tc_df K A D c s d (r + 1)) = (if K' r = 1 then (if A' r = s then (if c r = 0 then tc_df K' A' D' c s d (r + 1) else tc_mn (D' r) (c r)) else tc_df K' A' D' c s d (r + 1)) else tc_df K' A' D' c s d (r + 1))
    rw [(h r (by omega) (by omega)).1, (h r (by omega) (by omega)).2.1, (h r (by omega) (by omega)).2.2, tc_df_k d (r + 1) (fun q h1 h2 => h q (by omega) (by omega))]
section
variable {ns nc mr ct jn pn hn fn : Nat} {pl ph dp oc fl fz : Int32}
variable {B H U lo up fa va me mt mo wi K A D R co T sk ne od su sv fi ya yp yb S C L Y ys yr : Nat → Int32}
theorem tc_ag_sj {K' A' D' : Nat → Int32} {r : Nat} (h : tc_ag ct K A D K' A' D') (hr : r < ct) : tc_sj K A D H r = tc_sj K' A' D' H r := by
  obtain ⟨a, b, c⟩ := h r hr
  unfold tc_sj
  rw [a, b, c]
theorem tc_ag_ms {K' A' D' : Nat → Int32} {r t : Nat} (h : tc_ag ct K A D K' A' D') (hr : r < ct) : tc_ms K A R T r t ↔ tc_ms K' A' R T r t := by
  obtain ⟨a, b, c⟩ := h r hr
  unfold tc_ms
  rw [a, b]
theorem tc_ag_GR {K' A' D' : Nat → Int32} (h : tc_ag ct K A D K' A' D') (hR : tc_GR ns nc ct K A D) : tc_GR ns nc ct K' A' D' := by
  intro r hr
  obtain ⟨a, b, c⟩ := h r hr
  rw [← a, ← b, ← c]
  exact hR r hr
theorem tc_ag_RK {K' A' D' : Nat → Int32} {rk : Nat → Nat} (h : tc_ag ct K A D K' A' D') (hk : tc_RK ns ct K A D H R T rk) : tc_RK ns ct K' A' D' H R T rk := by
  refine ⟨hk.1, fun r t hr ht m => ?_⟩
  rw [← tc_ag_sj h hr]
  exact hk.2 r t hr ht ((tc_ag_ms h hr).mpr m)
theorem tc_ag_Se {K' A' D' : Nat → Int32} {M : Nat → List Nat} {k : Nat} (h : tc_ag ct K A D K' A' D') (hS : tc_Se ct M K A D B U H R T co va lo up fa mo wi k) : tc_Se ct M K' A' D' B U H R T co va lo up fa mo wi k := by
  obtain ⟨h1, h2, h3⟩ := hS
  have hm : ∀ a, tc_Mo ct K' A' co a = tc_Mo ct K A co a := fun a => (tc_ls_k ct 0 2 (fun q _ hq => ⟨(h q (by omega)).1, (h q (by omega)).2.1⟩)).symm
  have hl : ∀ s, tc_Lo ct K' D' A' B co va s = tc_Lo ct K D A B co va s := fun s => by
    unfold tc_Lo
    rw [tc_gr_k (K := K) (D := D) (A := A) (K' := K') (D' := D') (A' := A') ct 0 0 (fun q _ hq => h q (by omega))]
  have hu : ∀ m s, tc_Up ct K' A' B co m s = tc_Up ct K A B co m s := fun m s => by
    unfold tc_Up
    rw [tc_ls_k (K := K) (A := A) (K' := K') (A' := A') ct 0 2 (fun q _ hq => ⟨(h q (by omega)).1, (h q (by omega)).2.1⟩)]
  have hf : ∀ u s, tc_Fa ct K' A' D' B co va u s = tc_Fa ct K A D B co va u s := fun u s => by
    unfold tc_Fa
    rw [tc_gr_k (K := K) (D := D) (A := A) (K' := K') (D' := D') (A' := A') ct 0 0 (fun q _ hq => h q (by omega)), tc_df_k (K := K) (D := D) (A := A) (K' := K') (D' := D') (A' := A') ct 0 (fun q _ hq => h q (by omega))]
  refine ⟨fun r hr e => h1 r hr ((tc_ag_sj h hr).trans e), fun c hc e => ?_, fun s hs e => ?_⟩
  · rw [hm]; exact h2 c hc e
  · rw [hl, hu, hf]; exact h3 s hs e
theorem tc_ag_u {x y z : Int32} : tc_ag ct K A D (upd K ct x) (upd A ct y) (upd D ct z) := fun r hr => ⟨(pk_un (by omega)).symm, (pk_un (by omega)).symm, (pk_un (by omega)).symm⟩
/-- a good rule's arguments -/
def tc_sg (ns : Nat) (kd b : Int32) : Prop := (kd = 1 → ¬ b < 0 ∧ b ≤ 2) ∧ (kd = 2 ∨ kd = 3 → ∃ j, j < ns ∧ b = nI j)
def tc_rg (ns nc : Nat) (kd a b : Int32) : Prop := ¬ kd < 0 ∧ kd ≤ 4 ∧ (kd = 4 → ∃ j, j < nc ∧ a = nI j) ∧ (¬ kd = 4 → ∃ j, j < ns ∧ a = nI j) ∧ tc_sg ns kd b
theorem xu_gs {post : Int32 → Prop} {kd b : Int32} (hn : ns ≤ 12) (h1 : tc_sg ns kd b → post 1) (h0 : ¬ tc_sg ns kd b → post 0) : wpX_goodSecond post ((nI ns), (nI nc), (nI mr), (nI ct), pl, ph, dp, oc, fl, B, H, U, lo, up, fa, va, me, mt, mo, wi, K, A, D, R, co, T, sk, ne, od, su, sv, fi) kd b := by
  unfold wpX_goodSecond
  by_cases k1 : kd = 1
  · have hn23 : ¬ (kd = 2 ∨ kd = 3) := by rintro (z | z) <;> exact absurd (k1.symm.trans z) (by decide)
    refine br_t k1 ?_
    by_cases b0 : b < 0
    · exact br_t b0 (h0 (fun z => (z.1 k1).1 b0))
    · refine br_f b0 ?_
      by_cases b2 : 2 < b
      · exact br_t b2 (h0 (fun z => Int32.not_le.mpr b2 (z.1 k1).2))
      · exact br_f b2 (h1 ⟨fun _ => ⟨b0, Int32.not_lt.mp b2⟩, fun z => absurd z hn23⟩)
  · refine br_f k1 ?_
    have h30 : kd = 2 ∨ kd = 3 → wX_goodSecond_30 post b (nI ns) (nI nc) (nI mr) (nI ct) pl ph dp oc fl B H U lo up fa va me mt mo wi K A D R co T sk ne od su sv fi := by
      intro k23
      unfold wX_goodSecond_30
      refine xi_sym hn (fun j hj e => ⟨rfl, h1 ⟨fun z => absurd z k1, fun _ => ⟨j, hj, e⟩⟩⟩) (fun hno => ⟨rfl, h0 (fun z => hno (z.2 k23))⟩)
    by_cases k2 : kd = 2
    · exact br_t k2 (h30 (Or.inl k2))
    · refine br_f k2 ?_
      by_cases k3 : kd = 3
      · exact br_t k3 (h30 (Or.inr k3))
      · exact br_f k3 (h1 ⟨fun z => absurd z k1, fun z => (z.elim k2 k3).elim⟩)
theorem xu_chk {post : Int32 → SX → Prop} {kd a b : Int32} (hn : ns ≤ 12) (hnc : nc ≤ 3) (hg : tc_rg ns nc kd a b → wX_rule_29 post kd a b 1 (nI ns) (nI nc) (nI mr) (nI ct) pl ph dp oc fl B H U lo up fa va me mt mo wi K A D R co T sk ne od su sv fi) (hb : ¬ tc_rg ns nc kd a b → post (-1) ((nI ns), (nI nc), (nI mr), (nI ct), pl, ph, dp, oc, fl, B, H, U, lo, up, fa, va, me, mt, mo, wi, K, A, D, R, co, T, sk, ne, od, su, sv, fi)) : wpX_rule post ((nI ns), (nI nc), (nI mr), (nI ct), pl, ph, dp, oc, fl, B, H, U, lo, up, fa, va, me, mt, mo, wi, K, A, D, R, co, T, sk, ne, od, su, sv, fi) kd a b := by
  have h29 : ¬ kd < 0 → kd ≤ 4 → (kd = 4 → ∃ j, j < nc ∧ a = nI j) → (¬ kd = 4 → ∃ j, j < ns ∧ a = nI j) → wX_rule_29 post kd a b 1 (nI ns) (nI nc) (nI mr) (nI ct) pl ph dp oc fl B H U lo up fa va me mt mo wi K A D R co T sk ne od su sv fi := by
    intro k0 k4 ha1 ha2
    by_cases hs : tc_sg ns kd b
    · exact hg ⟨k0, k4, ha1, ha2, hs⟩
    · unfold wX_rule_29
      refine br_f (by decide) ?_
      refine xu_gs hn (fun z => absurd z hs) (fun _ => ?_)
      exact br_t rfl (hb (fun z => hs z.2.2.2.2))
  unfold wpX_rule
  by_cases k0 : kd < 0
  · exact br_t k0 (hb (fun z => z.1 k0))
  · refine br_f k0 ?_
    by_cases k4 : kd ≤ 4
    · refine br_t k4 ?_
      by_cases e4 : kd = 4
      · refine br_t e4 ?_
        refine xi_cho hnc (fun j hj e => h29 k0 k4 (fun _ => ⟨j, hj, e⟩) (fun z => absurd e4 z)) (fun hno => ?_)
        exact br_t rfl (hb (fun z => hno (z.2.2.1 e4)))
      · refine br_f e4 ?_
        refine xi_sym hn (fun j hj e => h29 k0 k4 (fun z => absurd z e4) (fun _ => ⟨j, hj, e⟩)) (fun hno => ?_)
        exact br_t rfl (hb (fun z => hno (z.2.2.2.1 e4)))
    · exact br_f k4 (hb (fun z => k4 z.2.1))
theorem yu_chk {post : Int32 → SY → Prop} {kd a b : Int32} (hn : ns ≤ 12) (hnc : nc ≤ 3) (hg : tc_rg ns nc kd a b → wY_rule_73 post kd a b (nI ns) (nI nc) (nI mr) (nI jn) (nI ct) fz B U ya yp yb S C K A D L Y ys yr fi) (hb : ¬ tc_rg ns nc kd a b → post (-1) ((nI ns), (nI nc), (nI mr), (nI jn), (nI ct), fz, B, U, ya, yp, yb, S, C, K, A, D, L, Y, ys, yr, fi)) : wpY_rule post ((nI ns), (nI nc), (nI mr), (nI jn), (nI ct), fz, B, U, ya, yp, yb, S, C, K, A, D, L, Y, ys, yr, fi) kd a b := by
  have h37 : ¬ kd < 0 → kd ≤ 4 → (kd = 4 → ∃ j, j < nc ∧ a = nI j) → (¬ kd = 4 → ∃ j, j < ns ∧ a = nI j) → wY_rule_37 post kd a b (nI ns) (nI nc) (nI mr) (nI jn) (nI ct) fz B U ya yp yb S C K A D L Y ys yr fi := by
    intro k0 k4 ha1 ha2
    have h53 : (kd = 1 → ¬ b < 0 ∧ b ≤ 2) → wY_rule_53 post kd a b (nI ns) (nI nc) (nI mr) (nI jn) (nI ct) fz B U ya yp yb S C K A D L Y ys yr fi := by
      intro h1
      have h63 : kd = 2 ∨ kd = 3 → wY_rule_63 post kd a b (nI ns) (nI nc) (nI mr) (nI jn) (nI ct) fz B U ya yp yb S C K A D L Y ys yr fi := by
        intro k23
        unfold wY_rule_63
        refine yi_sym hn (fun j hj e => ?_) (fun hno => ?_)
        · exact br_f (by decide) (hg ⟨k0, k4, ha1, ha2, h1, fun _ => ⟨j, hj, e⟩⟩)
        · exact br_t rfl (hb (fun z => hno (z.2.2.2.2.2 k23)))
      unfold wY_rule_53
      by_cases k2 : kd = 2
      · exact br_t k2 (h63 (Or.inl k2))
      · refine br_f k2 ?_
        by_cases k3 : kd = 3
        · exact br_t k3 (h63 (Or.inr k3))
        · exact br_f k3 (hg ⟨k0, k4, ha1, ha2, h1, fun z => (z.elim k2 k3).elim⟩)
    unfold wY_rule_37
    by_cases k1 : kd = 1
    · refine br_t k1 ?_
      by_cases b0 : b < 0
      · exact br_t b0 (hb (fun z => (z.2.2.2.2.1 k1).1 b0))
      · refine br_f b0 ?_
        by_cases b2 : b ≤ 2
        · exact br_t b2 (h53 (fun _ => ⟨b0, b2⟩))
        · exact br_f b2 (hb (fun z => b2 (z.2.2.2.2.1 k1).2))
    · exact br_f k1 (h53 (fun z => absurd z k1))
  unfold wpY_rule
  by_cases k0 : kd < 0
  · exact br_t k0 (hb (fun z => z.1 k0))
  · refine br_f k0 ?_
    by_cases k4 : kd ≤ 4
    · refine br_t k4 ?_
      by_cases e4 : kd = 4
      · refine br_t e4 ?_
        refine yi_cho hnc (fun j hj e => ?_) (fun hno => ?_)
        · exact br_f (by decide) (h37 k0 k4 (fun _ => ⟨j, hj, e⟩) (fun z => absurd e4 z))
        · exact br_t rfl (hb (fun z => hno (z.2.2.1 e4)))
      · refine br_f e4 ?_
        refine yi_sym hn (fun j hj e => ?_) (fun hno => ?_)
        · exact br_f (by decide) (h37 k0 k4 (fun z => absurd z e4) (fun _ => ⟨j, hj, e⟩))
        · exact br_t rfl (hb (fun z => hno (z.2.2.2.1 e4)))
    · exact br_f k4 (hb (fun z => k4 z.2.1))
theorem xu_sl {post : SX → Prop} {T0 : Nat → Int32} (hc : ct < 24) (p8 : pn ≤ 8) (hp : ∀ T, (∀ q, q < pn → T (8 * ct + q) = T0 (192 + q)) → (∀ j, ¬ (8 * ct ≤ j ∧ j < 8 * ct + 8) → T j = T0 j) → post ((nI ns), (nI nc), (nI mr), (nI (ct + 1)), (nI pn), (nI hn), dp, 15, (nI fn), B, H, U, lo, up, fa, va, me, mt, mo, wi, K, A, D, R, co, T, sk, ne, od, su, sv, fi)) :
    ∀ d i f T, i + d = pn → d < f → (∀ q, q < i → T (8 * ct + q) = T0 (192 + q)) → (∀ j, ¬ (8 * ct ≤ j ∧ j < 8 * ct + 8) → T j = T0 j) → wX_storeRule_46 post (nI ns) (nI nc) (nI mr) (nI ct) (nI pn) (nI hn) dp 15 (nI fn) f (nI i) B H U lo up fa va me mt mo wi K A D R co T sk ne od su sv fi := by
  intro d
  induction d with
  | zero =>
    intro i f T hd hf h1 h2
    obtain ⟨f, rfl⟩ : ∃ g, f = g + 1 := ⟨f - 1, by omega⟩
    obtain rfl : i = pn := by omega
    exact br_t (nI_le (Nat.le_refl _) (by omega)) (nm_r (nI_1 ct) (hp T h1 h2))
  | succ d ih =>
    intro i f T hd hf h1 h2
    obtain ⟨f, rfl⟩ : ∃ g, f = g + 1 := ⟨f - 1, by omega⟩
    have e1 : (192 : Int32) + nI i = nI (192 + i) := nI_add 192 i
    have e2 : (8 : Int32) * nI ct + nI i = nI (8 * ct + i) := tc_i8 ct i
    refine br_f (nI_ge (by omega) (by omega)) ?_
    rw [e1, e2, nI_clamp (show 192 + i < 2 ^ 31 by omega), nI_clamp (show 8 * ct + i < 2 ^ 31 by omega)]
    refine ⟨vp_in_nI (by omega) (by decide), vp_in_nI (by omega) (by decide), nm_e (nm_r (nI_1 i) (ih (i + 1) f _ (by omega) (by omega) (fun q hq => ?_) (fun j hj => ?_)))⟩
    · by_cases z : q = i
      · subst z; rw [pk_us]; exact h2 _ (by omega)
      · rw [pk_un (by omega)]; exact h1 q (by omega)
    · rw [pk_un (by omega)]; exact h2 j hj
theorem xu_store {post : SX → Prop} {kd a b : Int32} (hc : ct < 24) (p8 : pn ≤ 8) (hp : ∀ T', (∀ q, q < pn → T' (8 * ct + q) = T (192 + q)) → (∀ j, ¬ (8 * ct ≤ j ∧ j < 8 * ct + 8) → T' j = T j) → post ((nI ns), (nI nc), (nI mr), (nI (ct + 1)), (nI pn), (nI hn), dp, 15, (nI fn), B, H, U, lo, up, fa, va, me, mt, mo, wi, upd K ct kd, upd A ct a, upd D ct b, upd R ct (nI pn), co, T', sk, ne, od, su, sv, fi)) : wpX_storeRule post ((nI ns), (nI nc), (nI mr), (nI ct), (nI pn), (nI hn), dp, 15, (nI fn), B, H, U, lo, up, fa, va, me, mt, mo, wi, K, A, D, R, co, T, sk, ne, od, su, sv, fi) kd a b := by
  have e : (nI ct).toNatClampNeg = ct := nI_clamp (by omega)
  have hi : vp_in (nI ct) 24 := vp_in_nI hc (by decide)
  refine And.intro hi (nm_r (e' := upd K ct kd) (by rw [e]) ⟨hi, nm_r (e' := upd A ct a) (by rw [e]) ⟨hi, nm_r (e' := upd D ct b) (by rw [e]) ⟨hi, nm_r (e' := upd R ct (nI pn)) (by rw [e]) ⟨pn + 1, ?_⟩⟩⟩⟩)
  exact xu_sl hc p8 hp pn 0 (pn + 1) T (by omega) (by omega) (fun q hq => absurd hq (by omega)) (fun j _ => rfl)
/-- the rules with the new one -/
theorem tc_new {kd a b : Int32} {T' : Nat → Int32} (hns : ns ≤ 12) (hct : ct < 24) (hR : tc_GR ns nc ct K A D) (hT : tc_GT ns ct R T) (hS : tc_SM ct R T L Y) (hP : tc_PN ns ct pn hn T L Y) (hg : tc_rg ns nc kd a b)
    (t1 : ∀ q, q < pn → T' (8 * ct + q) = T (192 + q)) (t2 : ∀ j, ¬ (8 * ct ≤ j ∧ j < 8 * ct + 8) → T' j = T j) :
    tc_SM ct R T (upd R ct (nI pn)) T' ∧ tc_GR ns nc (ct + 1) (upd K ct kd) (upd A ct a) (upd D ct b) ∧ tc_GT ns (ct + 1) (upd R ct (nI pn)) T' ∧ tc_SM (ct + 1) (upd R ct (nI pn)) T' L Y := by
  obtain ⟨p8, el, ey, hgs, eh⟩ := hP
  have hlen : ∀ r, r < ct → (R r).toNatClampNeg ≤ 8 := by
    intro r hr
    obtain ⟨n, h8, er, -⟩ := hT r hr
    rw [er, nI_clamp (by omega)]; exact h8
  have s1 : tc_SM ct R T (upd R ct (nI pn)) T' := fun r hr => ⟨pk_un (by omega), fun i hi => t2 _ (by have := hlen r hr; omega)⟩
  have hT1 := tc_SM_T s1 hT
  have hRct : upd R ct (nI pn) ct = nI pn := pk_us
  refine ⟨s1, fun r hr => ?_, fun r hr => ?_, fun r hr => ?_⟩
  · by_cases z : r = ct
    · subst z
      rw [pk_us, pk_us, pk_us]
      obtain ⟨k0, k4, ha1, ha2, hs1, hs2⟩ := hg
      obtain ⟨j, hj, rfl⟩ := nI_of2 (M := 4) (n := 4) (by decide) k0 k4
      by_cases e4 : nI j = 4
      · exact Or.inl ⟨e4, ha1 e4⟩
      · have ha := ha2 e4
        by_cases j2 : j = 2 ∨ j = 3
        · have k23 : nI j = 2 ∨ nI j = 3 := j2.elim (fun z => Or.inl (by rw [z]; rfl)) (fun z => Or.inr (by rw [z]; rfl))
          exact Or.inr (Or.inr ⟨k23, ha, hs2 k23⟩)
        · have hj4 : j ≠ 4 := fun z => e4 (by rw [z]; rfl)
          have k01 : nI j = 0 ∨ nI j = 1 := by
            by_cases z : j = 0
            · subst z; exact Or.inl rfl
            · obtain rfl : j = 1 := by omega
              exact Or.inr rfl
          exact Or.inr (Or.inl ⟨k01, ha⟩)
    · have := tc_ag_GR (tc_ag_u (x := kd) (y := a) (z := b)) hR r (by omega)
      exact this
  · by_cases z : r = ct
    · subst z
      exact ⟨pn, p8, hRct, tc_gs_c (fun q hq => (t1 q hq).symm) hgs⟩
    · exact hT1 r (by omega)
  · by_cases z : r = ct
    · subst z
      rw [hRct, nI_clamp (by omega)]
      exact ⟨el, fun i hi => (ey i hi).trans (t1 i hi).symm⟩
    · obtain ⟨a1, a2⟩ := s1 r (by omega)
      obtain ⟨b1, b2⟩ := hS r (by omega)
      rw [a1]
      exact ⟨b1, fun i hi => (b2 i hi).trans (a2 i hi).symm⟩
end
end
section
theorem i_vc_rule {k : Nat} {u : SX} {v : SY} (I : i_Rel k u v) (hk : k + 4 ≤ 2051) (v1 : Int32) (v2 : Int32) (v3 : Int32) : wpX_rule (fun r u' => wpY_rule (fun r' v' => r' = r ∧ i_Rel (k + 4) u' v') v v1 v2 v3) u v1 v2 v3 := by
  refine zz_el (P := fun u v => wpX_rule (fun r u' => wpY_rule (fun r' v' => r' = r ∧ i_Rel (k + 4) u' v') v v1 v2 v3) u v1 v2 v3) ?_ I
  intro ns nc mr ct jn pn hn fn dp B H U lo up fa va me mt mo wi K A D R co T sk ne od su sv fi ya yp yb S C L Y ys yr hF
  have hF' := hF
  obtain ⟨⟨hd1, hn12, hd2, hnc, hd3, hmr, hct, hd4⟩, hR, hT, hS, hJ, hMe, hP, ⟨rk0, hrk0, hod0⟩, hSe⟩ := hF'
  refine xu_chk hn12 hnc (fun hg => ?_) (fun hb => ?_)
  rotate_left
  · exact yu_chk hn12 hnc (fun hg => absurd hg hb) (fun _ => ⟨rfl, zz_in hF⟩)
  have hY : ∀ post : Int32 → SY → Prop, wY_rule_73 post v1 v2 v3 (nI ns) (nI nc) (nI mr) (nI jn) (nI ct) (nI fn) B U ya yp yb S C K A D L Y ys yr fi → wpY_rule post ((nI ns), (nI nc), (nI mr), (nI jn), (nI ct), (nI fn), B, U, ya, yp, yb, S, C, K, A, D, L, Y, ys, yr, fi) v1 v2 v3 := fun post hp => yu_chk hn12 hnc (fun _ => hp) (fun hb => absurd hg hb)
  obtain ⟨b1, b2⟩ := tc_PN_8 hn12 hP
  unfold wX_rule_29
  refine br_f (by decide) ?_
  refine xu_gs hn12 (fun _ => ?_) (fun hb => absurd hg.2.2.2.2 hb)
  refine br_f (by decide) ?_
  refine xp_open (by omega) (by omega) (fun hop => ?_) (fun z y => ?_)
  rotate_left
  · refine br_f (by decide) (hY _ ?_)
    unfold wY_rule_73
    refine yp_open hn12 (by omega) hP (fun h => (by rcases h with h | h <;> omega)) (fun _ _ => ?_)
    exact br_f (by decide) ⟨rfl, zz_in hF⟩
  refine br_t rfl ?_
  by_cases hlt : ct < mr
  rotate_left
  · have hge : ¬ nI ct < nI mr := nI_nlt (by omega) (by omega)
    refine br_f hge (hY _ ?_)
    unfold wY_rule_73
    refine yp_open hn12 (by omega) hP (fun _ => ?_) (fun z y => (by rcases hop with h | h <;> omega))
    exact br_t rfl (br_f hge ⟨rfl, zz_in hF⟩)
  refine br_t (nI_lt hlt (by omega)) ?_
  refine xu_store (by omega) b2 (fun T' t1 t2 => ?_)
  obtain ⟨n1, n2, n3, n4⟩ := tc_new (kd := v1) (a := v2) (b := v3) hn12 (show ct < 24 by omega) hR hT hS hP hg t1 t2
  have hct1 : ct + 1 ≤ 24 := by omega
  have e : (nI ct).toNatClampNeg = ct := nI_clamp (by omega)
  have hi : vp_in (nI ct) 25 := vp_in_nI (by omega) (by decide)
  have hYT := tc_SM_T n4 n3
  have hag := tc_ag_u (ct := ct) (K := K) (A := A) (D := D) (x := v1) (y := v2) (z := v3)
  have hY2 : ∀ post : Int32 → SY → Prop, ((∃ rk, tc_RK ns (ct + 1) (upd K ct v1) (upd A ct v2) (upd D ct v3) H (upd R ct (nI pn)) T' rk) → ∀ yr, post (nI (ct + 1)) ((nI ns), (nI nc), (nI mr), (nI jn), (nI (ct + 1)), (nI fn), B, U, ya, yp, yb, S, C, upd K ct v1, upd A ct v2, upd D ct v3, upd L (ct + 1) 0, Y, ys, yr, fi)) → ((¬ ∃ rk, tc_RK ns (ct + 1) (upd K ct v1) (upd A ct v2) (upd D ct v3) H (upd R ct (nI pn)) T' rk) → ∀ yr, post (-5) ((nI ns), (nI nc), (nI mr), (nI jn), (nI ct), (nI fn), B, U, ya, yp, yb, S, C, upd K ct v1, upd A ct v2, upd D ct v3, L, Y, ys, yr, fi)) → wpY_rule post ((nI ns), (nI nc), (nI mr), (nI jn), (nI ct), (nI fn), B, U, ya, yp, yb, S, C, K, A, D, L, Y, ys, yr, fi) v1 v2 v3 := by
    intro post h0 h1
    refine hY post ?_
    unfold wY_rule_73
    refine yp_open hn12 (by omega) hP (fun _ => ?_) (fun z y => (by rcases hop with h | h <;> omega))
    refine br_t rfl (br_t (nI_lt hlt (by omega)) ?_)
    rw [e]
    refine ⟨hi, nm_e ⟨hi, nm_e ⟨hi, nm_e (nm_r (nI_1 ct) ?_)⟩⟩⟩
    refine yq_rec hct1 hn12 hnc hJ n2 hYT (fun ⟨rk, hrk⟩ yr => ?_) (fun hno yr => ?_)
    · refine br_t rfl ⟨vp_in_nI (by omega) (by decide), ?_⟩
      rw [nI_clamp (show ct + 1 < 2 ^ 31 by omega)]
      exact nm_e (h0 ⟨rk, (tc_SM_rk n4).mpr hrk⟩ yr)
    · exact br_f (by decide) (nm_r (nI_pred ct) (h1 (fun ⟨rk, hrk⟩ => hno ⟨rk, (tc_SM_rk n4).mp hrk⟩) yr))
  refine xo_sort hct1 hn12 hnc (tc_GJ_H hJ) n2 n3 (fun ne od rk hrk hod => ?_) (fun ne oc od hno => ?_)
  · refine br_f (by decide) ?_
    unfold wpX_dropPending
    refine zx_rec hct1 hn12 hnc n2 n3 hJ hMe hrk hod (fun co dp sk lo up fa va mo wi hSe' => ?_)
    refine hY2 _ (fun _ yr => ⟨rfl, ?_⟩) (fun hno => absurd ⟨rk, hrk⟩ hno)
    refine zz_in (pn := 0) (hn := 0) ⟨⟨hd1, hn12, hd2, hnc, hd3, hmr, by omega, hd4⟩, n2, n3, fun r hr => ?_, hJ, hMe, ⟨by omega, pk_us, fun i hi => absurd hi (by omega), fun i hi => absurd hi (by omega), rfl⟩, ⟨rk, hrk, hod⟩, hSe'⟩
    rw [pk_un (by omega)]
    exact n4 r hr
  · refine br_t rfl (nm_r (nI_pred ct) ?_)
    have hR' := tc_ag_GR hag hR
    have hT' := tc_SM_T n1 hT
    have hrk' := (tc_SM_rk n1).mp (tc_ag_RK hag hrk0)
    refine xo_sort (by omega) hn12 hnc (tc_GJ_H hJ) hR' hT' (fun ne od rk hrk hod => ?_) (fun ne oc od h => absurd ⟨rk0, hrk'⟩ h)
    refine hY2 _ (fun h => absurd h hno) (fun _ yr => ⟨rfl, ?_⟩)
    obtain ⟨p8, el, ey, hgs, eh⟩ := hP
    have e192 : ∀ q, q < pn → T' (192 + q) = T (192 + q) := fun q hq => t2 _ (by omega)
    refine zz_in ⟨⟨hd1, hn12, hd2, hnc, hd3, hmr, hct, hd4⟩, hR', hT', fun r hr => ?_, hJ, hMe, ⟨p8, el, fun i hi => (ey i hi).trans (e192 i hi).symm, tc_gs_c (fun q hq => (e192 q hq).symm) hgs, eh.trans (tc_hg_c pn (fun q hq => (e192 q hq).symm))⟩, ⟨rk, hrk, hod⟩, fun k hk => tc_SM_Se hn12 hT n1 (tc_ag_Se hag (hSe k hk))⟩
    exact n4 r (by omega)
end
section
/-! loading a file -/
def tc_me (x : Int32) : Int32 := if x = 110 then 0 else if x = 109 then 1 else if x = 121 then 2 else -1
abbrev tc_ia (ns : Nat) (fi : Nat → Int32) (st en : Nat) : Prop := en - st = 3 ∧ (¬ fi st - 65 < 0 ∧ ¬ nI ns ≤ fi st - 65) ∧ fi (st + 1) = 61 ∧ ¬ tc_me (fi (st + 2)) = -1
def tc_li (ns : Nat) (B fi : Nat → Int32) (st en : Nat) : Int32 := if st = en then 0 else if fi st = 35 then 0 else if tc_ia ns fi st en then (if B (fi st - 65).toNatClampNeg = 0 then 1 else if tc_me (fi (st + 2)) = 1 then -8 else 1) else -9
theorem tc_me_0 (x : Int32) : tc_me x = 0 ∨ tc_me x = 1 ∨ tc_me x = 2 ∨ tc_me x = -1 := by
  unfold tc_me
  by_cases h1 : x = 110
  · rw [if_pos h1]; exact Or.inl rfl
  · rw [if_neg h1]
    by_cases h2 : x = 109
    · rw [if_pos h2]; exact Or.inr (Or.inl rfl)
    · rw [if_neg h2]
      by_cases h3 : x = 121
      · rw [if_pos h3]; exact Or.inr (Or.inr (Or.inl rfl))
      · rw [if_neg h3]; exact Or.inr (Or.inr (Or.inr rfl))
theorem tc_me_1 {x : Int32} : tc_me x = 1 ↔ x = 109 := by
  unfold tc_me
  by_cases h1 : x = 110
  · rw [if_pos h1, h1]; decide
  · rw [if_neg h1]
    by_cases h2 : x = 109
    · rw [if_pos h2]; exact ⟨fun _ => h2, fun _ => rfl⟩
    · rw [if_neg h2]
      by_cases h3 : x = 121
      · rw [if_pos h3, h3]; decide
      · rw [if_neg h3]; exact ⟨fun z => absurd z (by decide), fun z => absurd z h2⟩
theorem tc_me_p {x : Int32} : 0 ≤ tc_me x ↔ ¬ tc_me x = -1 := by
  rcases tc_me_0 x with h | h | h | h <;> rw [h] <;> decide
/-- a line that is read is an assignment or is skipped -/
theorem tc_li_1 {ns : Nat} {B fi : Nat → Int32} {st en : Nat} (h : 0 ≤ tc_li ns B fi st en) : tc_li ns B fi st en = 1 ↔ tc_ia ns fi st en := by
  unfold tc_li at h ⊢
  by_cases h1 : st = en
  · rw [if_pos h1]
    exact ⟨fun z => absurd z (by decide), fun z => by have := z.1; omega⟩
  · rw [if_neg h1] at h ⊢
    by_cases h2 : fi st = 35
    · rw [if_pos h2]
      refine ⟨fun z => absurd z (by decide), fun z => absurd z.2.1.1 (fun y => y ?_)⟩
      rw [h2]; decide
    · rw [if_neg h2] at h ⊢
      by_cases h3 : tc_ia ns fi st en
      · rw [if_pos h3] at h ⊢
        refine ⟨fun _ => h3, fun _ => ?_⟩
        by_cases h4 : B (fi st - 65).toNatClampNeg = 0
        · rw [if_pos h4]
        · rw [if_neg h4] at h ⊢
          by_cases h5 : tc_me (fi (st + 2)) = 1
          · rw [if_pos h5] at h; exact absurd h (by decide)
          · rw [if_neg h5]
      · rw [if_neg h3] at h
        exact absurd h (by decide)
theorem tc_iy {ns : Nat} {x : Int32} (hn : ns ≤ 12) : (¬ x < 0 ∧ ¬ nI ns ≤ x) ↔ ∃ j, j < ns ∧ x = nI j := by
  constructor
  · rintro ⟨h1, h2⟩
    rcases pk_ix x (n := ns) (by omega) with w | w | w
    · exact absurd w h1
    · exact absurd w h2
    · exact w
  · rintro ⟨j, hj, rfl⟩
    exact ⟨nI_pos (by omega), nI_ge hj (by omega)⟩
def tc_ck (ns fn : Nat) (B fi : Nat → Int32) : Nat → Nat → Nat → Int32
  | 0, _, st => if fn ≤ st then 0 else -9
  | d + 1, i, st => if fi i = 10 then (if 0 ≤ tc_li ns B fi st i then tc_ck ns fn B fi d (i + 1) (i + 1) else tc_li ns B fi st i) else tc_ck ns fn B fi d (i + 1) st
def tc_ap (ns : Nat) (H fi : Nat → Int32) : Nat → Nat → Nat → Nat → (Nat → Int32) → Nat × (Nat → Int32)
  | 0, _, _, c, U => (c, U)
  | d + 1, i, st, c, U => if fi i = 10 then (if tc_ia ns fi st i then tc_ap ns H fi d (i + 1) (i + 1) (c + 1) (tc_as ns H U (fi st - 65).toNatClampNeg (tc_me (fi (st + 2)))) else tc_ap ns H fi d (i + 1) (i + 1) c U) else tc_ap ns H fi d (i + 1) st c U
def tc_U3 (ns : Nat) (U : Nat → Int32) : Nat → Int32 := fun j => if j < ns then 3 else U j
section
variable {ns nc mr ct jn pn hn fn : Nat} {pl ph dp oc fl fz : Int32}
variable {B H U lo up fa va me mt mo wi K A D R co T sk ne od su sv fi ya yp yb S C L Y ys yr : Nat → Int32}
theorem xf_vl {post : Int32 → Prop} {x : Int32} (hp : post (tc_me x)) : wpX_valueOfLetter post ((nI ns), (nI nc), (nI mr), (nI ct), pl, ph, dp, oc, fl, B, H, U, lo, up, fa, va, me, mt, mo, wi, K, A, D, R, co, T, sk, ne, od, su, sv, fi) x := by
  unfold tc_me at hp
  by_cases h1 : x = 110
  · rw [if_pos h1] at hp; exact br_t h1 hp
  · rw [if_neg h1] at hp
    by_cases h2 : x = 109
    · rw [if_pos h2] at hp; exact br_f h1 (br_t h2 hp)
    · rw [if_neg h2] at hp
      by_cases h3 : x = 121
      · rw [if_pos h3] at hp; exact br_f h1 (br_f h2 (br_t h3 hp))
      · rw [if_neg h3] at hp; exact br_f h1 (br_f h2 (br_f h3 hp))
theorem yf_me {post : Int32 → Prop} {x : Int32} (hp : post (tc_me x)) : wpY_meaning post ((nI ns), (nI nc), (nI mr), (nI jn), (nI ct), fz, B, U, ya, yp, yb, S, C, K, A, D, L, Y, ys, yr, fi) x := by
  unfold tc_me at hp
  by_cases h1 : x = 110
  · rw [if_pos h1] at hp; exact br_t h1 hp
  · rw [if_neg h1] at hp
    by_cases h2 : x = 109
    · rw [if_pos h2] at hp; exact br_f h1 (br_t h2 hp)
    · rw [if_neg h2] at hp
      by_cases h3 : x = 121
      · rw [if_pos h3] at hp; exact br_f h1 (br_f h2 (br_t h3 hp))
      · rw [if_neg h3] at hp; exact br_f h1 (br_f h2 (br_f h3 hp))
theorem xf_ia {post : Int32 → Prop} {st en : Nat} (hn : ns ≤ 12) (h1 : st ≤ en) (h2 : en < 96) (ht : tc_ia ns fi st en → post 1) (hf : ¬ tc_ia ns fi st en → post 0) : wpX_isAssignment post ((nI ns), (nI nc), (nI mr), (nI ct), pl, ph, dp, oc, fl, B, H, U, lo, up, fa, va, me, mt, mo, wi, K, A, D, R, co, T, sk, ne, od, su, sv, fi) (nI st) (nI en) := by
  have e0 : (nI st).toNatClampNeg = st := nI_clamp (by omega)
  have e1 : nI st + 1 = nI (st + 1) := nI_1 st
  have e2 : nI st + 2 = nI (st + 2) := nI_add st 2
  have c1 : (nI (st + 1)).toNatClampNeg = st + 1 := nI_clamp (by omega)
  have c2 : (nI (st + 2)).toNatClampNeg = st + 2 := nI_clamp (by omega)
  have es : nI en - nI st = nI (en - st) := pk_sub h1
  unfold wpX_isAssignment
  rw [es, e0, e1, e2, c1, c2]
  by_cases h3 : en - st = 3
  · refine br_t (by rw [h3]; rfl) ⟨vp_in_nI (by omega) (by decide), ?_⟩
    refine xi_sym hn (fun j hj e => ?_) (fun hno => ?_)
    · have hy := (tc_iy hn).mpr ⟨j, hj, e⟩
      refine br_f (by decide) ⟨vp_in_nI (by omega) (by decide), ?_⟩
      by_cases h61 : fi (st + 1) = 61
      · refine br_t h61 ⟨vp_in_nI (by omega) (by decide), ?_⟩
        refine xf_vl ?_
        by_cases hm : tc_me (fi (st + 2)) = -1
        · exact br_t hm (hf (fun z => z.2.2.2 hm))
        · exact br_f hm (ht ⟨h3, hy, h61, hm⟩)
      · exact br_f h61 (hf (fun z => h61 z.2.2.1))
    · exact br_t rfl (hf (fun z => hno ((tc_iy hn).mp z.2.1)))
  · exact br_f (fun z => h3 ((nI_eq (b := 3) (by omega) (by decide)).mp z)) (hf (fun z => h3 z.1))
theorem xf_cl {post : Int32 → Prop} {st en : Nat} (hn : ns ≤ 12) (h1 : st ≤ en) (h2 : en < 96) (hp : post (if 0 ≤ tc_li ns B fi st en then 0 else tc_li ns B fi st en)) : wpX_checkLine post ((nI ns), (nI nc), (nI mr), (nI ct), pl, ph, dp, oc, fl, B, H, U, lo, up, fa, va, me, mt, mo, wi, K, A, D, R, co, T, sk, ne, od, su, sv, fi) (nI st) (nI en) := by
  have e0 : (nI st).toNatClampNeg = st := nI_clamp (by omega)
  have e2 : nI st + 2 = nI (st + 2) := nI_add st 2
  unfold wpX_checkLine
  rw [e0, e2]
  unfold tc_li at hp
  by_cases h3 : st = en
  · rw [if_pos h3, if_pos (by decide)] at hp
    exact br_t (by rw [h3]) hp
  · rw [if_neg h3] at hp
    have hi : vp_in (nI st) 96 := vp_in_nI (by omega) (by decide)
    refine br_f (fun z => h3 ((nI_eq (by omega) (by omega)).mp z)) ⟨hi, ?_⟩
    by_cases h35 : fi st = 35
    · rw [if_pos h35, if_pos (by decide)] at hp
      exact br_t h35 hp
    · rw [if_neg h35] at hp
      refine br_f h35 ?_
      refine xf_ia hn h1 h2 (fun hia => ?_) (fun hia => ?_)
      · rw [if_pos hia] at hp
        have hlen := hia.1
        have c2 : (nI (st + 2)).toNatClampNeg = st + 2 := nI_clamp (by omega)
        refine br_f (by decide) ⟨vp_in_nI (by omega) (by decide), ?_⟩
        rw [c2]
        obtain ⟨j, hj, ej⟩ := (tc_iy hn).mp hia.2.1
        by_cases hm : fi (st + 2) = 109
        · refine br_t hm ?_
          unfold wX_checkLine_48
          rw [e0]
          refine br_f (by decide) ⟨hi, pk_in j 12 (by omega) ej, ?_⟩
          rw [if_pos (tc_me_1.mpr hm)] at hp
          by_cases hb : B (fi st - 65).toNatClampNeg = 0
          · rw [if_pos hb, if_pos (by decide)] at hp
            exact br_t hb hp
          · rw [if_neg hb, if_neg (by decide)] at hp
            exact br_f hb hp
        · refine br_f hm ?_
          rw [if_neg (fun z => hm (tc_me_1.mp z)), ite_self, if_pos (by decide)] at hp
          exact br_t rfl hp
      · rw [if_neg hia, if_neg (by decide)] at hp
        exact br_t rfl hp
theorem yf_li {post : Int32 → Prop} {st en : Nat} (hn : ns ≤ 12) (h1 : st ≤ en) (h2 : en < 96) (hp : post (tc_li ns B fi st en)) : wpY_line post ((nI ns), (nI nc), (nI mr), (nI jn), (nI ct), fz, B, U, ya, yp, yb, S, C, K, A, D, L, Y, ys, yr, fi) (nI st) (nI en) := by
  have e0 : (nI st).toNatClampNeg = st := nI_clamp (by omega)
  have e1 : nI st + 1 = nI (st + 1) := nI_1 st
  have e2 : nI st + 2 = nI (st + 2) := nI_add st 2
  have c1 : (nI (st + 1)).toNatClampNeg = st + 1 := nI_clamp (by omega)
  have c2 : (nI (st + 2)).toNatClampNeg = st + 2 := nI_clamp (by omega)
  have es : nI en - nI st = nI (en - st) := pk_sub h1
  unfold wpY_line
  rw [es, e0, e1, e2, c1, c2]
  unfold tc_li at hp
  by_cases h3 : st = en
  · rw [if_pos h3] at hp
    exact br_t (by rw [h3]) hp
  · rw [if_neg h3] at hp
    have hi : vp_in (nI st) 96 := vp_in_nI (by omega) (by decide)
    refine br_f (fun z => h3 ((nI_eq (by omega) (by omega)).mp z)) ⟨hi, ?_⟩
    by_cases h35 : fi st = 35
    · rw [if_pos h35] at hp
      exact br_t h35 hp
    · rw [if_neg h35] at hp
      refine br_f h35 ?_
      by_cases hl : en - st = 3
      · refine br_t (by rw [hl]; rfl) ⟨hi, nm_e ⟨vp_in_nI (by omega) (by decide), ?_⟩⟩
        refine yf_me ?_
        refine yi_sym hn (fun j hj e => ?_) (fun hno => ?_)
        · have hy := (tc_iy hn).mpr ⟨j, hj, e⟩
          refine br_f (by decide) ⟨vp_in_nI (by omega) (by decide), ?_⟩
          by_cases h61 : fi (st + 1) = 61
          · refine br_t h61 ?_
            by_cases hm : tc_me (fi (st + 2)) = -1
            · rw [if_neg (fun z : tc_ia ns fi st en => z.2.2.2 hm)] at hp
              exact br_f (fun z => tc_me_p.mp z hm) hp
            · rw [if_pos (⟨hl, hy, h61, hm⟩ : tc_ia ns fi st en)] at hp
              refine br_t (tc_me_p.mpr hm) ⟨pk_in j 12 (by omega) e, ?_⟩
              by_cases hb : B (fi st - 65).toNatClampNeg = 0
              · rw [if_pos hb] at hp; exact br_t hb hp
              · rw [if_neg hb] at hp
                refine br_f hb ?_
                by_cases h1' : tc_me (fi (st + 2)) = 1
                · rw [if_pos h1'] at hp; exact br_t h1' hp
                · rw [if_neg h1'] at hp; exact br_f h1' hp
          · rw [if_neg (fun z : tc_ia ns fi st en => h61 z.2.2.1)] at hp
            exact br_f h61 hp
        · rw [if_neg (fun z : tc_ia ns fi st en => hno ((tc_iy hn).mp z.2.1))] at hp
          exact br_t rfl hp
      · rw [if_neg (fun z : tc_ia ns fi st en => hl z.1)] at hp
        exact br_f (fun z => hl ((nI_eq (b := 3) (by omega) (by decide)).mp z)) hp
theorem xf_ck {post : Int32 → Prop} (hn : ns ≤ 12) (hfn : fn ≤ 96) : ∀ d i st f, i + d = fn → d < f → st ≤ i → post (tc_ck ns fn B fi d i st) → wX_checkFile_4 post (nI ns) (nI nc) (nI mr) (nI ct) pl ph dp oc (nI fn) B H U lo up fa va me mt mo wi K A D R co T sk ne od su sv fi f (nI st) (nI i) := by
  intro d
  induction d with
  | zero =>
    intro i st f hd hf hs hp
    obtain ⟨f, rfl⟩ : ∃ g, f = g + 1 := ⟨f - 1, by omega⟩
    have hp : post (if fn ≤ st then 0 else -9) := hp
    refine br_t (nI_le (by omega) (by omega)) ?_
    by_cases h : fn ≤ st
    · rw [if_pos h] at hp; exact br_t (nI_le h (by omega)) hp
    · rw [if_neg h] at hp; exact br_f (nI_ge (by omega) (by omega)) hp
  | succ d ih =>
    intro i st f hd hf hs hp
    obtain ⟨f, rfl⟩ : ∃ g, f = g + 1 := ⟨f - 1, by omega⟩
    have e : (nI i).toNatClampNeg = i := nI_clamp (by omega)
    have hp : post (if fi i = 10 then (if 0 ≤ tc_li ns B fi st i then tc_ck ns fn B fi d (i + 1) (i + 1) else tc_li ns B fi st i) else tc_ck ns fn B fi d (i + 1) st) := hp
    refine br_f (nI_ge (by omega) (by omega)) ⟨vp_in_nI (by omega) (by decide), ?_⟩
    rw [e]
    by_cases h10 : fi i = 10
    · rw [if_pos h10] at hp
      refine br_t h10 ?_
      refine xf_cl hn hs (by omega) ?_
      by_cases hli : 0 ≤ tc_li ns B fi st i
      · rw [if_pos hli] at hp ⊢
        exact br_t rfl (nm_r (nI_1 i) (nm_r (nI_1 i) (ih (i + 1) (i + 1) f (by omega) (by omega) (Nat.le_refl _) hp)))
      · rw [if_neg hli] at hp ⊢
        exact br_f (fun z => hli (by rw [z]; decide)) hp
    · rw [if_neg h10] at hp
      exact br_f h10 (nm_r (nI_1 i) (ih (i + 1) st f (by omega) (by omega) (by omega) hp))
theorem xf_ap {post : Int32 → SX → Prop} (hn : ns ≤ 12) (hnc : nc ≤ 3) (hfn : fn ≤ 96) (hJ : tc_GJ ns nc jn S C H) (hMe : tc_Me me mt (tc_M S C jn)) : ∀ d i st c f U, i + d = fn → d < f → st ≤ i → post (nI (tc_ap ns H fi d i st c U).1) ((nI ns), (nI nc), (nI mr), (nI ct), pl, ph, dp, oc, nI fn, B, H, (tc_ap ns H fi d i st c U).2, lo, up, fa, va, me, mt, mo, wi, K, A, D, R, co, T, sk, ne, od, su, sv, fi) → wX_applyFile_6 post f (nI c) (nI st) (nI i) (nI ns) (nI nc) (nI mr) (nI ct) pl ph dp oc (nI fn) B H U lo up fa va me mt mo wi K A D R co T sk ne od su sv fi := by
  intro d
  induction d with
  | zero =>
    intro i st c f U hd hf hs hp
    obtain ⟨f, rfl⟩ : ∃ g, f = g + 1 := ⟨f - 1, by omega⟩
    exact br_t (nI_le (by omega) (by omega)) hp
  | succ d ih =>
    intro i st c f U hd hf hs hp
    obtain ⟨f, rfl⟩ : ∃ g, f = g + 1 := ⟨f - 1, by omega⟩
    have e : (nI i).toNatClampNeg = i := nI_clamp (by omega)
    have eu : tc_ap ns H fi (d + 1) i st c U = if fi i = 10 then (if tc_ia ns fi st i then tc_ap ns H fi d (i + 1) (i + 1) (c + 1) (tc_as ns H U (fi st - 65).toNatClampNeg (tc_me (fi (st + 2)))) else tc_ap ns H fi d (i + 1) (i + 1) c U) else tc_ap ns H fi d (i + 1) st c U := rfl
    rw [eu] at hp
    refine br_f (nI_ge (by omega) (by omega)) ⟨vp_in_nI (by omega) (by decide), ?_⟩
    rw [e]
    by_cases h10 : fi i = 10
    · rw [if_pos h10] at hp
      refine br_t h10 ?_
      refine xf_ia hn hs (by omega) (fun hia => ?_) (fun hia => ?_)
      · rw [if_pos hia] at hp
        have hlen := hia.1
        have e0 : (nI st).toNatClampNeg = st := nI_clamp (by omega)
        have e2 : nI st + 2 = nI (st + 2) := nI_add st 2
        have c2 : (nI (st + 2)).toNatClampNeg = st + 2 := nI_clamp (by omega)
        obtain ⟨j, hj, ej⟩ := (tc_iy hn).mp hia.2.1
        rw [ej, nI_clamp (by omega)] at hp
        refine br_f (by decide) ?_
        rw [e2, c2]
        refine ⟨vp_in_nI (by omega) (by decide), ?_⟩
        refine xf_vl ⟨vp_in_nI (by omega) (by decide), ?_⟩
        rw [e0, ej]
        refine xa_assign hn hnc hJ hMe hj ?_
        exact nm_r (nI_1 c) (nm_r (nI_1 i) (nm_r (nI_1 i) (ih (i + 1) (i + 1) (c + 1) f _ (by omega) (by omega) (Nat.le_refl _) hp)))
      · rw [if_neg hia] at hp
        exact br_t rfl (nm_r (nI_1 i) (nm_r (nI_1 i) (ih (i + 1) (i + 1) c f U (by omega) (by omega) (Nat.le_refl _) hp)))
    · rw [if_neg h10] at hp
      exact br_f h10 (nm_r (nI_1 i) (ih (i + 1) st c f U (by omega) (by omega) (by omega) hp))
theorem yf_p0 {post : Int32 → SY → Prop} {J : Int32 → Int32 → Int32 → Int32 → Int32 → Int32 → Int32 → Int32 → (Nat → Int32) → (Nat → Int32) → (Nat → Int32) → (Nat → Int32) → (Nat → Int32) → (Nat → Int32) → (Nat → Int32) → (Nat → Int32) → (Nat → Int32) → (Nat → Int32) → (Nat → Int32) → (Nat → Int32) → (Nat → Int32) → (Nat → Int32) → (Nat → Int32) → Prop} {x : Int32} (hn : ns ≤ 12) (hfn : fn ≤ 96) : ∀ d i st f, i + d = fn → d < f → st ≤ i → (tc_ck ns fn B fi d i st = 0 → ∃ n, wY_load_120 post J x 0 (nI ns) (nI nc) (nI mr) (nI jn) (nI ct) (nI fn) n 0 B U ya yp yb S C K A D L Y ys yr fi) → (¬ tc_ck ns fn B fi d i st = 0 → post (tc_ck ns fn B fi d i st) ((nI ns), (nI nc), (nI mr), (nI jn), (nI ct), (nI fn), B, U, ya, yp, yb, S, C, K, A, D, L, Y, ys, yr, fi)) → wY_load_14 post J 0 f x (nI st) (nI i) (nI ns) (nI nc) (nI mr) (nI jn) (nI ct) (nI fn) B U ya yp yb S C K A D L Y ys yr fi := by
  intro d
  induction d with
  | zero =>
    intro i st f hd hf hs h0 h1
    obtain ⟨f, rfl⟩ : ∃ g, f = g + 1 := ⟨f - 1, by omega⟩
    have ec : tc_ck ns fn B fi 0 i st = if fn ≤ st then 0 else -9 := rfl
    refine br_t (nI_le (by omega) (by omega)) ?_
    by_cases h : fn ≤ st
    · rw [ec, if_pos h] at h0
      exact br_t (nI_le h (by omega)) (h0 rfl)
    · rw [ec, if_neg h] at h1
      exact br_f (nI_ge (by omega) (by omega)) (h1 (by decide))
  | succ d ih =>
    intro i st f hd hf hs h0 h1
    obtain ⟨f, rfl⟩ : ∃ g, f = g + 1 := ⟨f - 1, by omega⟩
    have e : (nI i).toNatClampNeg = i := nI_clamp (by omega)
    have ec : tc_ck ns fn B fi (d + 1) i st = if fi i = 10 then (if 0 ≤ tc_li ns B fi st i then tc_ck ns fn B fi d (i + 1) (i + 1) else tc_li ns B fi st i) else tc_ck ns fn B fi d (i + 1) st := rfl
    rw [ec] at h0 h1
    refine br_f (nI_ge (by omega) (by omega)) ⟨vp_in_nI (by omega) (by decide), ?_⟩
    rw [e]
    by_cases h10 : fi i = 10
    · rw [if_pos h10] at h0 h1
      refine br_t h10 ?_
      refine yf_li hn hs (by omega) ?_
      by_cases hli : 0 ≤ tc_li ns B fi st i
      · rw [if_pos hli] at h0 h1
        exact br_t hli (br_f (by decide) (nm_r (nI_1 i) (nm_r (nI_1 i) (ih (i + 1) (i + 1) f (by omega) (by omega) (Nat.le_refl _) h0 h1))))
      · rw [if_neg hli] at h0 h1
        exact br_f hli (h1 (fun z => hli (by rw [z]; decide)))
    · rw [if_neg h10] at h0 h1
      exact br_f h10 (nm_r (nI_1 i) (ih (i + 1) st f (by omega) (by omega) (by omega) h0 h1))
theorem yf_p1 {post : Int32 → SY → Prop} {J : Int32 → Int32 → Int32 → Int32 → Int32 → Int32 → Int32 → Int32 → (Nat → Int32) → (Nat → Int32) → (Nat → Int32) → (Nat → Int32) → (Nat → Int32) → (Nat → Int32) → (Nat → Int32) → (Nat → Int32) → (Nat → Int32) → (Nat → Int32) → (Nat → Int32) → (Nat → Int32) → (Nat → Int32) → (Nat → Int32) → (Nat → Int32) → Prop} (hn : ns ≤ 12) (hfn : fn ≤ 96) (hJ : tc_GJ ns nc jn S C H) : ∀ d i st c f U, i + d = fn → d < f → st ≤ i → tc_ck ns fn B fi d i st = 0 → (∃ n, wY_load_120 post J (nI (tc_ap ns H fi d i st c U).1) 1 (nI ns) (nI nc) (nI mr) (nI jn) (nI ct) (nI fn) n 0 B ((tc_ap ns H fi d i st c U).2) ya yp yb S C K A D L Y ys yr fi) → wY_load_14 post J 1 f (nI c) (nI st) (nI i) (nI ns) (nI nc) (nI mr) (nI jn) (nI ct) (nI fn) B U ya yp yb S C K A D L Y ys yr fi := by
  intro d
  induction d with
  | zero =>
    intro i st c f U hd hf hs h0 hp
    obtain ⟨f, rfl⟩ : ∃ g, f = g + 1 := ⟨f - 1, by omega⟩
    have h0 : (if fn ≤ st then (0 : Int32) else -9) = 0 := h0
    refine br_t (nI_le (by omega) (by omega)) ?_
    by_cases h : fn ≤ st
    · exact br_t (nI_le h (by omega)) hp
    · rw [if_neg h] at h0
      exact absurd h0 (by decide)
  | succ d ih =>
    intro i st c f U hd hf hs h0 hp
    obtain ⟨f, rfl⟩ : ∃ g, f = g + 1 := ⟨f - 1, by omega⟩
    have e : (nI i).toNatClampNeg = i := nI_clamp (by omega)
    have h0 : (if fi i = 10 then (if 0 ≤ tc_li ns B fi st i then tc_ck ns fn B fi d (i + 1) (i + 1) else tc_li ns B fi st i) else tc_ck ns fn B fi d (i + 1) st) = 0 := h0
    have eu : tc_ap ns H fi (d + 1) i st c U = if fi i = 10 then (if tc_ia ns fi st i then tc_ap ns H fi d (i + 1) (i + 1) (c + 1) (tc_as ns H U (fi st - 65).toNatClampNeg (tc_me (fi (st + 2)))) else tc_ap ns H fi d (i + 1) (i + 1) c U) else tc_ap ns H fi d (i + 1) st c U := rfl
    rw [eu] at hp
    refine br_f (nI_ge (by omega) (by omega)) ⟨vp_in_nI (by omega) (by decide), ?_⟩
    rw [e]
    by_cases h10 : fi i = 10
    · rw [if_pos h10] at h0 hp
      refine br_t h10 ?_
      refine yf_li hn hs (by omega) ?_
      by_cases hli : 0 ≤ tc_li ns B fi st i
      · rw [if_pos hli] at h0
        refine br_t hli (br_t rfl ?_)
        by_cases hia : tc_ia ns fi st i
        · rw [if_pos hia] at hp
          have hlen := hia.1
          have e0 : (nI st).toNatClampNeg = st := nI_clamp (by omega)
          have e2 : nI st + 2 = nI (st + 2) := nI_add st 2
          have c2 : (nI (st + 2)).toNatClampNeg = st + 2 := nI_clamp (by omega)
          obtain ⟨j, hj, ej⟩ := (tc_iy hn).mp hia.2.1
          rw [ej, nI_clamp (by omega)] at hp
          refine br_t ((tc_li_1 hli).mpr hia) ?_
          rw [e2, c2]
          refine ⟨vp_in_nI (by omega) (by decide), ?_⟩
          refine yf_me ⟨vp_in_nI (by omega) (by decide), ?_⟩
          rw [e0, ej]
          refine ya_change hn hJ hj ?_
          exact nm_r (nI_1 c) (nm_r (nI_1 i) (nm_r (nI_1 i) (ih (i + 1) (i + 1) (c + 1) f _ (by omega) (by omega) (Nat.le_refl _) h0 hp)))
        · rw [if_neg hia] at hp
          exact br_f (fun z => hia ((tc_li_1 hli).mp z)) (nm_r (nI_1 i) (nm_r (nI_1 i) (ih (i + 1) (i + 1) c f U (by omega) (by omega) (Nat.le_refl _) h0 hp)))
      · rw [if_neg hli] at h0
        exact absurd (by rw [h0]; decide) hli
    · rw [if_neg h10] at h0 hp
      exact br_f h10 (nm_r (nI_1 i) (ih (i + 1) st c f U (by omega) (by omega) (by omega) h0 hp))
theorem yf_r0 {post : Int32 → SY → Prop} {J : Int32 → Int32 → Int32 → Int32 → Int32 → Int32 → Int32 → Int32 → (Nat → Int32) → (Nat → Int32) → (Nat → Int32) → (Nat → Int32) → (Nat → Int32) → (Nat → Int32) → (Nat → Int32) → (Nat → Int32) → (Nat → Int32) → (Nat → Int32) → (Nat → Int32) → (Nat → Int32) → (Nat → Int32) → (Nat → Int32) → (Nat → Int32) → Prop} {x : Int32} {U0 : Nat → Int32} (hn : ns ≤ 12) (hp : J x 1 (nI ns) (nI nc) (nI mr) (nI jn) (nI ct) (nI fn) B (tc_U3 ns U0) ya yp yb S C K A D L Y ys yr fi) : ∀ d s f U, s + d = ns → d < f → (∀ j, U j = if j < s then 3 else U0 j) → wY_load_120 post J x 0 (nI ns) (nI nc) (nI mr) (nI jn) (nI ct) (nI fn) f (nI s) B U ya yp yb S C K A D L Y ys yr fi := by
  intro d
  induction d with
  | zero =>
    intro s f U hd hf h
    obtain ⟨f, rfl⟩ : ∃ g, f = g + 1 := ⟨f - 1, by omega⟩
    obtain rfl : s = ns := by omega
    obtain rfl : U = tc_U3 s U0 := funext h
    exact br_t (nI_le (Nat.le_refl _) (by omega)) (nm_r rfl hp)
  | succ d ih =>
    intro s f U hd hf h
    obtain ⟨f, rfl⟩ : ∃ g, f = g + 1 := ⟨f - 1, by omega⟩
    have e : (nI s).toNatClampNeg = s := nI_clamp (by omega)
    refine br_f (nI_ge (by omega) (by omega)) (br_t rfl ⟨vp_in_nI (by omega) (by decide), nm_r (e' := upd U s 3) (by rw [e]) (nm_r (nI_1 s) (ih (s + 1) f _ (by omega) (by omega) (fun j => ?_)))⟩)
    by_cases z : j = s
    · rw [z, pk_us, if_pos (by omega)]
    · rw [pk_un z, h j]
      by_cases y : j < s
      · rw [if_pos y, if_pos (by omega)]
      · rw [if_neg y, if_neg (by omega)]
theorem yf_r1 {post : Int32 → SY → Prop} {J : Int32 → Int32 → Int32 → Int32 → Int32 → Int32 → Int32 → Int32 → (Nat → Int32) → (Nat → Int32) → (Nat → Int32) → (Nat → Int32) → (Nat → Int32) → (Nat → Int32) → (Nat → Int32) → (Nat → Int32) → (Nat → Int32) → (Nat → Int32) → (Nat → Int32) → (Nat → Int32) → (Nat → Int32) → (Nat → Int32) → (Nat → Int32) → Prop} {x : Int32} (hn : ns ≤ 12) (hp : J x 2 (nI ns) (nI nc) (nI mr) (nI jn) (nI ct) (nI fn) B U ya yp yb S C K A D L Y ys yr fi) : ∀ d s f, s + d = ns → d < f → wY_load_120 post J x 1 (nI ns) (nI nc) (nI mr) (nI jn) (nI ct) (nI fn) f (nI s) B U ya yp yb S C K A D L Y ys yr fi := by
  intro d
  induction d with
  | zero =>
    intro s f hd hf
    obtain ⟨f, rfl⟩ : ∃ g, f = g + 1 := ⟨f - 1, by omega⟩
    exact br_t (nI_le (by omega) (by omega)) (nm_r rfl hp)
  | succ d ih =>
    intro s f hd hf
    obtain ⟨f, rfl⟩ : ∃ g, f = g + 1 := ⟨f - 1, by omega⟩
    exact br_f (nI_ge (by omega) (by omega)) (br_f (by decide) (nm_r (nI_1 s) (ih (s + 1) f (by omega) (by omega))))
theorem xf_r {post : Int32 → SX → Prop} {U0 : Nat → Int32} (hn : ns ≤ 12) (hp : wpX_applyFile (fun r u => wpX_recompute (fun u => post r u) u) ((nI ns), (nI nc), (nI mr), (nI ct), pl, ph, dp, oc, fl, B, H, tc_U3 ns U0, lo, up, fa, va, me, mt, mo, wi, K, A, D, R, co, T, sk, ne, od, su, sv, fi)) : ∀ d s f U, s + d = ns → d < f → (∀ j, U j = if j < s then 3 else U0 j) → wX_load_13 post (nI ns) (nI nc) (nI mr) (nI ct) pl ph dp oc fl f (nI s) B H U lo up fa va me mt mo wi K A D R co T sk ne od su sv fi := by
  intro d
  induction d with
  | zero =>
    intro s f U hd hf h
    obtain ⟨f, rfl⟩ : ∃ g, f = g + 1 := ⟨f - 1, by omega⟩
    obtain rfl : s = ns := by omega
    obtain rfl : U = tc_U3 s U0 := funext h
    exact br_t (nI_le (Nat.le_refl _) (by omega)) hp
  | succ d ih =>
    intro s f U hd hf h
    obtain ⟨f, rfl⟩ : ∃ g, f = g + 1 := ⟨f - 1, by omega⟩
    have e : (nI s).toNatClampNeg = s := nI_clamp (by omega)
    refine br_f (nI_ge (by omega) (by omega)) ⟨vp_in_nI (by omega) (by decide), nm_r (e' := upd U s 3) (by rw [e]) (nm_r (nI_1 s) (ih (s + 1) f _ (by omega) (by omega) (fun j => ?_)))⟩
    by_cases z : j = s
    · rw [z, pk_us, if_pos (by omega)]
    · rw [pk_un z, h j]
      by_cases y : j < s
      · rw [if_pos y, if_pos (by omega)]
      · rw [if_neg y, if_neg (by omega)]
end
theorem i_vc_load {k : Nat} {u : SX} {v : SY} (I : i_Rel k u v) (hk : k + 4 ≤ 2051) : wpX_load (fun r u' => wpY_load (fun r' v' => r' = r ∧ i_Rel (k + 4) u' v') v) u := by
  refine zz_el (P := fun u v => wpX_load (fun r u' => wpY_load (fun r' v' => r' = r ∧ i_Rel (k + 4) u' v') v) u) ?_ I
  intro ns nc mr ct jn pn hn fn dp B H U lo up fa va me mt mo wi K A D R co T sk ne od su sv fi ya yp yb S C L Y ys yr hF
  have hF' := hF
  obtain ⟨⟨hd1, hn12, hd2, hnc, hd3, hmr, hct, hd4⟩, hR, hT, hS, hJ, hMe, hP, -, -⟩ := hF'
  unfold wpX_load
  refine Exists.intro (fn + 1) (xf_ck hn12 hd4 fn 0 0 (fn + 1) (by omega) (by omega) (by omega) ?_)
  by_cases h0 : tc_ck ns fn B fi fn 0 0 = 0
  · refine br_t h0 ⟨ns + 1, xf_r hn12 ?_ ns 0 (ns + 1) U (by omega) (by omega) (fun j => (if_neg (by omega)).symm)⟩
    refine Exists.intro (fn + 1) (xf_ap hn12 hnc hd4 hJ hMe fn 0 0 0 (fn + 1) (tc_U3 ns U) (by omega) (by omega) (by omega) ?_)
    refine zr_rec hF (fun co' dp sk lo' up' fa' va' mo' wi' hF2 => ?_)
    refine Exists.intro 3 (br_f (by decide) ⟨fn + 1, ?_⟩)
    refine yf_p0 hn12 hd4 fn 0 0 (fn + 1) (by omega) (by omega) (by omega) (fun _ => ⟨ns + 1, ?_⟩) (fun z => absurd h0 z)
    refine yf_r0 hn12 ?_ ns 0 (ns + 1) U (by omega) (by omega) (fun j => (if_neg (by omega)).symm)
    refine br_f (by decide) ⟨fn + 1, ?_⟩
    refine yf_p1 hn12 hd4 hJ fn 0 0 0 (fn + 1) (tc_U3 ns U) (by omega) (by omega) (by omega) h0 ⟨ns + 1, ?_⟩
    refine yf_r1 hn12 ?_ ns 0 (ns + 1) (by omega) (by omega)
    exact br_t (by decide) ⟨rfl, zz_in hF2⟩
  · refine br_f h0 ?_
    refine Exists.intro 3 (br_f (by decide) ⟨fn + 1, ?_⟩)
    exact yf_p0 hn12 hd4 fn 0 0 (fn + 1) (by omega) (by omega) (by omega) (fun z => absurd z h0) (fun _ => ⟨rfl, zz_in hF⟩)
end
section
/-! saving -/
def tc_le (v : Int32) : Int32 := if v = 0 then 110 else if v = 1 then 109 else 121
def tc_w4 (fi : Nat → Int32) (l s : Nat) (x : Int32) : Nat → Int32 := upd (upd (upd (upd fi (4 * l) (65 + nI s)) (4 * l + 1) 61) (4 * l + 2) x) (4 * l + 3) 10
def tc_wf (U : Nat → Int32) : Nat → Nat → Nat → (Nat → Int32) → Nat × (Nat → Int32)
  | 0, _, l, fi => (l, fi)
  | d + 1, s, l, fi => if U s = 3 then tc_wf U d (s + 1) l fi else tc_wf U d (s + 1) (l + 1) (tc_w4 fi l s (tc_le (U s)))
def tc_Ub (ns : Nat) (b U : Nat → Int32) : Nat → Int32 := fun j => if j < ns then b j else U j
theorem tc_wf_l {U : Nat → Int32} : ∀ d s l fi, (tc_wf U d s l fi).1 ≤ l + d
  | 0, _, _, _ => Nat.le_refl _
  | d + 1, s, l, fi => by
    have e : tc_wf U (d + 1) s l fi = if U s = 3 then tc_wf U d (s + 1) l fi else tc_wf U d (s + 1) (l + 1) (tc_w4 fi l s (tc_le (U s))) := rfl
    rw [e]
    by_cases h : U s = 3
    · rw [if_pos h]; have := tc_wf_l (U := U) d (s + 1) l fi; omega
    · rw [if_neg h]; have := tc_wf_l (U := U) d (s + 1) (l + 1) (tc_w4 fi l s (tc_le (U s))); omega
section
variable {ns nc mr ct jn pn hn fn : Nat} {pl ph dp oc fl fz : Int32}
variable {B H U lo up fa va me mt mo wi K A D R co T sk ne od su sv fi ya yp yb S C L Y ys yr : Nat → Int32}
theorem xw_dv {post : Int32 → Prop} (hn : ns ≤ 12) (h0 : (∀ t, t < ns → va t = sv t) → post 0) (h1 : (¬ ∀ t, t < ns → va t = sv t) → post 1) : ∀ d s f, s + d = ns → d < f → (∀ t, t < s → va t = sv t) → wX_valuesDiffer_2 post (nI ns) (nI nc) (nI mr) (nI ct) pl ph dp oc fl B H U lo up fa va me mt mo wi K A D R co T sk ne od su sv fi f (nI s) := by
  intro d
  induction d with
  | zero =>
    intro s f hd hf h
    obtain ⟨f, rfl⟩ : ∃ g, f = g + 1 := ⟨f - 1, by omega⟩
    obtain rfl : s = ns := by omega
    exact br_t (nI_le (Nat.le_refl _) (by omega)) (h0 h)
  | succ d ih =>
    intro s f hd hf h
    obtain ⟨f, rfl⟩ : ∃ g, f = g + 1 := ⟨f - 1, by omega⟩
    have e : (nI s).toNatClampNeg = s := nI_clamp (by omega)
    have hi : vp_in (nI s) 12 := vp_in_nI (by omega) (by decide)
    refine br_f (nI_ge (by omega) (by omega)) ⟨hi, hi, ?_⟩
    rw [e]
    by_cases z : va s = sv s
    · refine br_t z (nm_r (nI_1 s) (ih (s + 1) f (by omega) (by omega) (fun t ht => ?_)))
      by_cases y : t = s
      · rw [y]; exact z
      · exact h t (by omega)
    · exact br_f z (h1 (fun y => z (y s (by omega))))
theorem yw_dv {post : Int32 → Prop} (hn : ns ≤ 12) (h0 : (∀ t, t < ns → ya t = yp t) → post 0) (h1 : (¬ ∀ t, t < ns → ya t = yp t) → post 1) : ∀ d s f, s + d = ns → d < f → (∀ t, t < s → ya t = yp t) → wY_differs_2 post (nI ns) (nI nc) (nI mr) (nI jn) (nI ct) fz B U ya yp yb S C K A D L Y ys yr fi f (nI s) := by
  intro d
  induction d with
  | zero =>
    intro s f hd hf h
    obtain ⟨f, rfl⟩ : ∃ g, f = g + 1 := ⟨f - 1, by omega⟩
    obtain rfl : s = ns := by omega
    exact br_t (nI_le (Nat.le_refl _) (by omega)) (h0 h)
  | succ d ih =>
    intro s f hd hf h
    obtain ⟨f, rfl⟩ : ∃ g, f = g + 1 := ⟨f - 1, by omega⟩
    have e : (nI s).toNatClampNeg = s := nI_clamp (by omega)
    have hi : vp_in (nI s) 12 := vp_in_nI (by omega) (by decide)
    refine br_f (nI_ge (by omega) (by omega)) ⟨hi, hi, ?_⟩
    rw [e]
    by_cases z : ya s = yp s
    · refine br_t z (nm_r (nI_1 s) (ih (s + 1) f (by omega) (by omega) (fun t ht => ?_)))
      by_cases y : t = s
      · rw [y]; exact z
      · exact h t (by omega)
    · exact br_f z (h1 (fun y => z (y s (by omega))))
theorem xw_diff {post : Int32 → Prop} (hn : ns ≤ 12) (h0 : (∀ t, t < ns → va t = sv t) → post 0) (h1 : (¬ ∀ t, t < ns → va t = sv t) → post 1) : wpX_valuesDiffer post ((nI ns), (nI nc), (nI mr), (nI ct), pl, ph, dp, oc, fl, B, H, U, lo, up, fa, va, me, mt, mo, wi, K, A, D, R, co, T, sk, ne, od, su, sv, fi) :=
  Exists.intro (ns + 1) (xw_dv hn h0 h1 ns 0 (ns + 1) (by omega) (by omega) (fun t ht => absurd ht (by omega)))
theorem yw_diff {post : Int32 → Prop} (hn : ns ≤ 12) (h0 : (∀ t, t < ns → ya t = yp t) → post 0) (h1 : (¬ ∀ t, t < ns → ya t = yp t) → post 1) : wpY_differs post ((nI ns), (nI nc), (nI mr), (nI jn), (nI ct), fz, B, U, ya, yp, yb, S, C, K, A, D, L, Y, ys, yr, fi) :=
  Exists.intro (ns + 1) (yw_dv hn h0 h1 ns 0 (ns + 1) (by omega) (by omega) (fun t ht => absurd ht (by omega)))
theorem xw_s2 {post : Int32 → SX → Prop} (hn : ns ≤ 12) (hp : ∀ su sv, (∀ t, t < ns → su t = U t) → (∀ t, t < ns → sv t = va t) → ∃ n, wX_save_42 post n 0 (nI ns) (nI nc) (nI mr) (nI ct) pl ph dp oc fl B H U lo up fa va me mt mo wi K A D R co T sk ne od su sv fi) : ∀ d s f su sv, s + d = ns → d < f → (∀ t, t < s → su t = U t) → (∀ t, t < s → sv t = va t) → wX_save_2 post (nI ns) (nI nc) (nI mr) (nI ct) pl ph dp oc fl f (nI s) B H U lo up fa va me mt mo wi K A D R co T sk ne od su sv fi := by
  intro d
  induction d with
  | zero =>
    intro s f su sv hd hf h1 h2
    obtain ⟨f, rfl⟩ : ∃ g, f = g + 1 := ⟨f - 1, by omega⟩
    obtain rfl : s = ns := by omega
    exact br_t (nI_le (Nat.le_refl _) (by omega)) (hp su sv h1 h2)
  | succ d ih =>
    intro s f su sv hd hf h1 h2
    obtain ⟨f, rfl⟩ : ∃ g, f = g + 1 := ⟨f - 1, by omega⟩
    have e : (nI s).toNatClampNeg = s := nI_clamp (by omega)
    have hi : vp_in (nI s) 12 := vp_in_nI (by omega) (by decide)
    refine br_f (nI_ge (by omega) (by omega)) ?_
    rw [e]
    refine ⟨hi, hi, nm_e ⟨hi, hi, nm_e (nm_r (nI_1 s) (ih (s + 1) f _ _ (by omega) (by omega) (fun t ht => ?_) (fun t ht => ?_)))⟩⟩
    · by_cases y : t = s
      · rw [y, pk_us]
      · rw [pk_un y]; exact h1 t (by omega)
    · by_cases y : t = s
      · rw [y, pk_us]
      · rw [pk_un y]; exact h2 t (by omega)
theorem yw_s6 {post : Int32 → SY → Prop} (hn : ns ≤ 12) (hp : ∀ yp yb, (∀ t, t < ns → yp t = ya t) → (∀ t, t < ns → yb t = U t) → ∃ n, wY_save_46 post n 0 (nI ns) (nI nc) (nI mr) (nI jn) (nI ct) fz B U ya yp yb S C K A D L Y ys yr fi) : ∀ d s f yp yb, s + d = ns → d < f → (∀ t, t < s → yp t = ya t) → (∀ t, t < s → yb t = U t) → wY_save_6 post (nI ns) (nI nc) (nI mr) (nI jn) (nI ct) fz f (nI s) B U ya yp yb S C K A D L Y ys yr fi := by
  intro d
  induction d with
  | zero =>
    intro s f yp yb hd hf h1 h2
    obtain ⟨f, rfl⟩ : ∃ g, f = g + 1 := ⟨f - 1, by omega⟩
    obtain rfl : s = ns := by omega
    exact br_t (nI_le (Nat.le_refl _) (by omega)) (hp yp yb h1 h2)
  | succ d ih =>
    intro s f yp yb hd hf h1 h2
    obtain ⟨f, rfl⟩ : ∃ g, f = g + 1 := ⟨f - 1, by omega⟩
    have e : (nI s).toNatClampNeg = s := nI_clamp (by omega)
    have hi : vp_in (nI s) 12 := vp_in_nI (by omega) (by decide)
    refine br_f (nI_ge (by omega) (by omega)) ?_
    rw [e]
    refine ⟨hi, hi, nm_e ⟨hi, hi, nm_e (nm_r (nI_1 s) (ih (s + 1) f _ _ (by omega) (by omega) (fun t ht => ?_) (fun t ht => ?_)))⟩⟩
    · by_cases y : t = s
      · rw [y, pk_us]
      · rw [pk_un y]; exact h1 t (by omega)
    · by_cases y : t = s
      · rw [y, pk_us]
      · rw [pk_un y]; exact h2 t (by omega)
theorem xw_app {post : SX → Prop} {l : Nat} {c : Int32} (h : l < 96) (hp : post ((nI ns), (nI nc), (nI mr), (nI ct), pl, ph, dp, oc, nI (l + 1), B, H, U, lo, up, fa, va, me, mt, mo, wi, K, A, D, R, co, T, sk, ne, od, su, sv, upd fi l c)) : wpX_append post ((nI ns), (nI nc), (nI mr), (nI ct), pl, ph, dp, oc, nI l, B, H, U, lo, up, fa, va, me, mt, mo, wi, K, A, D, R, co, T, sk, ne, od, su, sv, fi) c := by
  have e : (nI l).toNatClampNeg = l := nI_clamp (by omega)
  unfold wpX_append
  refine br_f (nI_ge (b := 96) h (by decide)) ⟨vp_in_nI h (by decide), nm_r (e' := upd fi l c) (by rw [e]) (nm_r (nI_1 l) hp)⟩
theorem xw_let {post : Int32 → Prop} {v : Int32} (hp : post (tc_le v)) : wpX_letterOf post ((nI ns), (nI nc), (nI mr), (nI ct), pl, ph, dp, oc, fl, B, H, U, lo, up, fa, va, me, mt, mo, wi, K, A, D, R, co, T, sk, ne, od, su, sv, fi) v := by
  unfold tc_le at hp
  by_cases h0 : v = 0
  · rw [if_pos h0] at hp; exact br_t h0 hp
  · rw [if_neg h0] at hp
    by_cases h1 : v = 1
    · rw [if_pos h1] at hp; exact br_f h0 (br_t h1 hp)
    · rw [if_neg h1] at hp; exact br_f h0 (br_f h1 hp)
theorem xw_wl {post : Int32 → SX → Prop} (hn : ns ≤ 12) : ∀ d s l f fi, s + d = ns → d < f → l ≤ s → post (nI (tc_wf U d s l fi).1) ((nI ns), (nI nc), (nI mr), (nI ct), pl, ph, dp, oc, nI (4 * (tc_wf U d s l fi).1), B, H, U, lo, up, fa, va, me, mt, mo, wi, K, A, D, R, co, T, sk, ne, od, su, sv, (tc_wf U d s l fi).2) → wX_writeFile_9 post f (nI l) (nI s) (nI ns) (nI nc) (nI mr) (nI ct) pl ph dp oc (nI (4 * l)) B H U lo up fa va me mt mo wi K A D R co T sk ne od su sv fi := by
  intro d
  induction d with
  | zero =>
    intro s l f fi hd hf hl hp
    obtain ⟨f, rfl⟩ : ∃ g, f = g + 1 := ⟨f - 1, by omega⟩
    exact br_t (nI_le (by omega) (by omega)) hp
  | succ d ih =>
    intro s l f fi hd hf hl hp
    obtain ⟨f, rfl⟩ : ∃ g, f = g + 1 := ⟨f - 1, by omega⟩
    have e : (nI s).toNatClampNeg = s := nI_clamp (by omega)
    have hi : vp_in (nI s) 12 := vp_in_nI (by omega) (by decide)
    have eu : tc_wf U (d + 1) s l fi = if U s = 3 then tc_wf U d (s + 1) l fi else tc_wf U d (s + 1) (l + 1) (tc_w4 fi l s (tc_le (U s))) := rfl
    rw [eu] at hp
    refine br_f (nI_ge (by omega) (by omega)) ⟨hi, ?_⟩
    rw [e]
    by_cases h : U s = 3
    · rw [if_pos h] at hp
      exact br_t h (nm_r (nI_1 s) (ih (s + 1) l f fi (by omega) (by omega) (by omega) hp))
    · rw [if_neg h] at hp
      refine br_f h ⟨hi, ?_⟩
      refine xw_let ?_
      refine xw_app (by omega) ?_
      refine xw_app (by omega) ?_
      refine xw_app (by omega) ?_
      refine xw_app (by omega) ?_
      exact nm_r (nI_1 l) (nm_r (nI_1 s) (ih (s + 1) (l + 1) f _ (by omega) (by omega) (by omega) hp))
theorem xw_78 {post : Int32 → SX → Prop} {x : Int32} {U0 : Nat → Int32} (hn : ns ≤ 12) (hp : wpX_recompute (fun u => post x u) ((nI ns), (nI nc), (nI mr), (nI ct), pl, ph, dp, oc, fl, B, H, tc_Ub ns su U0, lo, up, fa, va, me, mt, mo, wi, K, A, D, R, co, T, sk, ne, od, su, sv, fi)) : ∀ d s f U, s + d = ns → d < f → (∀ j, U j = if j < s then su j else U0 j) → wX_save_78 post x (nI ns) (nI nc) (nI mr) (nI ct) pl ph dp oc fl f (nI s) B H U lo up fa va me mt mo wi K A D R co T sk ne od su sv fi := by
  intro d
  induction d with
  | zero =>
    intro s f U hd hf h
    obtain ⟨f, rfl⟩ : ∃ g, f = g + 1 := ⟨f - 1, by omega⟩
    obtain rfl : s = ns := by omega
    obtain rfl : U = tc_Ub s su U0 := funext h
    exact br_t (nI_le (Nat.le_refl _) (by omega)) hp
  | succ d ih =>
    intro s f U hd hf h
    obtain ⟨f, rfl⟩ : ∃ g, f = g + 1 := ⟨f - 1, by omega⟩
    have e : (nI s).toNatClampNeg = s := nI_clamp (by omega)
    have hi : vp_in (nI s) 12 := vp_in_nI (by omega) (by decide)
    refine br_f (nI_ge (by omega) (by omega)) ?_
    rw [e]
    refine ⟨hi, hi, nm_e (nm_r (nI_1 s) (ih (s + 1) f _ (by omega) (by omega) (fun j => ?_)))⟩
    by_cases z : j = s
    · rw [z, pk_us, if_pos (by omega)]
    · rw [pk_un z, h j]
      by_cases y : j < s
      · rw [if_pos y, if_pos (by omega)]
      · rw [if_neg y, if_neg (by omega)]
theorem yw_w {post : Int32 → SY → Prop} {U0 : Nat → Int32} (hn : ns ≤ 12) : ∀ d s l f U fi, s + d = ns → d < f → l ≤ s → (∀ j, U j = if j < s then yb j else U0 j) → post (nI (tc_wf U0 d s l fi).1) ((nI ns), (nI nc), (nI mr), (nI jn), (nI ct), nI (4 * (tc_wf U0 d s l fi).1), B, tc_Ub ns yb U0, ya, yp, yb, S, C, K, A, D, L, Y, ys, yr, (tc_wf U0 d s l fi).2) → wY_save_104 post (nI ns) (nI nc) (nI mr) (nI jn) (nI ct) fz f (nI l) (nI s) B U ya yp yb S C K A D L Y ys yr fi := by
  intro d
  induction d with
  | zero =>
    intro s l f U fi hd hf hl h hp
    obtain ⟨f, rfl⟩ : ∃ g, f = g + 1 := ⟨f - 1, by omega⟩
    obtain rfl : s = ns := by omega
    obtain rfl : U = tc_Ub s yb U0 := funext h
    refine br_t (nI_le (Nat.le_refl _) (by omega)) (nm_r (e' := nI (4 * l)) ?_ hp)
    rw [Nat.mul_comm]; exact pk_mul l 4
  | succ d ih =>
    intro s l f U fi hd hf hl h hp
    obtain ⟨f, rfl⟩ : ∃ g, f = g + 1 := ⟨f - 1, by omega⟩
    have e : (nI s).toNatClampNeg = s := nI_clamp (by omega)
    have hi : vp_in (nI s) 12 := vp_in_nI (by omega) (by decide)
    have eu : tc_wf U0 (d + 1) s l fi = if U0 s = 3 then tc_wf U0 d (s + 1) l fi else tc_wf U0 d (s + 1) (l + 1) (tc_w4 fi l s (tc_le (U0 s))) := rfl
    rw [eu] at hp
    have hUs : U s = U0 s := by rw [h s, if_neg (by omega)]
    have hnext : ∀ l fi, l ≤ s + 1 → post (nI (tc_wf U0 d (s + 1) l fi).1) ((nI ns), (nI nc), (nI mr), (nI jn), (nI ct), nI (4 * (tc_wf U0 d (s + 1) l fi).1), B, tc_Ub ns yb U0, ya, yp, yb, S, C, K, A, D, L, Y, ys, yr, (tc_wf U0 d (s + 1) l fi).2) → wY_save_202 post (wY_save_104 post (nI ns) (nI nc) (nI mr) (nI jn) (nI ct) fz f) (nI l) (nI s) (nI ns) (nI nc) (nI mr) (nI jn) (nI ct) fz B U ya yp yb S C K A D L Y ys yr fi := by
      intro l fi hl hp
      unfold wY_save_202
      rw [e]
      refine ⟨hi, hi, nm_e (nm_r (nI_1 s) (ih (s + 1) l f _ fi (by omega) (by omega) hl (fun j => ?_) hp))⟩
      by_cases z : j = s
      · rw [z, pk_us, if_pos (by omega)]
      · rw [pk_un z, h j]
        by_cases y : j < s
        · rw [if_pos y, if_pos (by omega)]
        · rw [if_neg y, if_neg (by omega)]
    refine br_f (nI_ge (by omega) (by omega)) ⟨hi, ?_⟩
    have i0 : nI l * (4 : Int32) = nI (4 * l) := by rw [Nat.mul_comm]; exact pk_mul l 4
    have i1 : nI (4 * l) + 1 = nI (4 * l + 1) := nI_1 _
    have i2 : nI (4 * l) + 2 = nI (4 * l + 2) := nI_add _ 2
    have i3 : nI (4 * l) + 3 = nI (4 * l + 3) := nI_add _ 3
    have c0 : (nI (4 * l)).toNatClampNeg = 4 * l := nI_clamp (by omega)
    have c1 : (nI (4 * l + 1)).toNatClampNeg = 4 * l + 1 := nI_clamp (by omega)
    have c2 : (nI (4 * l + 2)).toNatClampNeg = 4 * l + 2 := nI_clamp (by omega)
    have c3 : (nI (4 * l + 3)).toNatClampNeg = 4 * l + 3 := nI_clamp (by omega)
    rw [e, hUs]
    by_cases hu : U0 s = 3
    · rw [if_pos hu] at hp
      exact br_t hu (hnext l fi (by omega) hp)
    · rw [if_neg hu] at hp
      have h186 : ∀ x : Int32, x = tc_le (U0 s) → wY_save_186 post (wY_save_104 post (nI ns) (nI nc) (nI mr) (nI jn) (nI ct) fz f) (nI l) (nI s) x (nI (4 * l + 2)) (nI ns) (nI nc) (nI mr) (nI jn) (nI ct) fz B U ya yp yb S C K A D L Y ys yr (upd (upd fi (4 * l) (65 + nI s)) (4 * l + 1) 61) := by
        intro x ex
        subst ex
        unfold wY_save_186
        rw [i0, i3, c2, c3]
        exact ⟨vp_in_nI (by omega) (by decide), nm_e ⟨vp_in_nI (by omega) (by decide), nm_e (nm_r (nI_1 l) (hnext (l + 1) _ (by omega) hp))⟩⟩
      refine br_f hu ?_
      rw [i0, i1, i2, c0, c1]
      refine ⟨vp_in_nI (by omega) (by decide), nm_e ⟨vp_in_nI (by omega) (by decide), nm_e ⟨hi, ?_⟩⟩⟩
      unfold tc_le at h186
      by_cases z0 : U0 s = 0
      · rw [if_pos z0] at h186
        exact br_t z0 (h186 _ rfl)
      · rw [if_neg z0] at h186
        refine br_f z0 ⟨hi, ?_⟩
        by_cases z1 : U0 s = 1
        · rw [if_pos z1] at h186
          exact br_t z1 (h186 _ rfl)
        · rw [if_neg z1] at h186
          exact br_f z1 (h186 _ rfl)
/-- the loop that drops idle settings, the reference's loop carried along -/
theorem xw_42 {post : Int32 → SX → Prop} (hn12 : ns ≤ 12) : ∀ d s f U1 co dp sk lo up fa va mo wi Ux, s + d = ns → d < f → tc_Fx ns nc mr ct jn pn hn fn B H Ux lo up fa va me mt mo wi K A D R co T od S C L Y →
    (∀ U2 co dp sk lo up fa va mo wi Ux, tc_Fx ns nc mr ct jn pn hn fn B H Ux lo up fa va me mt mo wi K A D R co T od S C L Y →
      (∀ (postY : Int32 → SY → Prop) fy ya ys yp yb, (∀ t, t < ns → yp t = sv t) → (∀ t, t < ns → yb t = su t) → d < fy → (∀ ya ys, ∃ n, wY_save_104 postY (nI ns) (nI nc) (nI mr) (nI jn) (nI ct) (nI fn) n 0 0 B U2 ya yp yb S C K A D L Y ys yr fi) → wY_save_46 postY fy (nI s) (nI ns) (nI nc) (nI mr) (nI jn) (nI ct) (nI fn) B U1 ya yp yb S C K A D L Y ys yr fi) →
      wX_save_42 post 1 (nI ns) (nI ns) (nI nc) (nI mr) (nI ct) (nI pn) (nI hn) dp 15 (nI fn) B H U2 lo up fa va me mt mo wi K A D R co T sk ne od su sv fi) →
    wX_save_42 post f (nI s) (nI ns) (nI nc) (nI mr) (nI ct) (nI pn) (nI hn) dp 15 (nI fn) B H U1 lo up fa va me mt mo wi K A D R co T sk ne od su sv fi := by
  intro d
  induction d with
  | zero =>
    intro s f U1 co dp sk lo up fa va mo wi Ux hd hf hF hp
    obtain ⟨f, rfl⟩ : ∃ g, f = g + 1 := ⟨f - 1, by omega⟩
    obtain rfl : s = ns := by omega
    have hle : nI s ≤ nI s := nI_le (Nat.le_refl _) (by omega)
    have h := (hp U1 co dp sk lo up fa va mo wi Ux hF (fun postY fy ya ys yp yb _ _ hfy hk => by
      obtain ⟨fy, rfl⟩ : ∃ g, fy = g + 1 := ⟨fy - 1, by omega⟩
      exact br_t hle (hk ya ys))).1 hle
    exact br_t hle h
  | succ d ih =>
    intro s f U1 co dp sk lo up fa va mo wi Ux hd hf hF hp
    obtain ⟨f, rfl⟩ : ∃ g, f = g + 1 := ⟨f - 1, by omega⟩
    have e : (nI s).toNatClampNeg = s := nI_clamp (by omega)
    have hi : vp_in (nI s) 12 := vp_in_nI (by omega) (by decide)
    have hge : ¬ nI ns ≤ nI s := nI_ge (by omega) (by omega)
    refine br_f hge ⟨hi, ?_⟩
    rw [e]
    by_cases h3 : U1 s = 3
    · refine br_t h3 (nm_r (nI_1 s) (ih (s + 1) f U1 co dp sk lo up fa va mo wi Ux (by omega) (by omega) hF (fun U2 co dp sk lo up fa va mo wi Ux hF2 hyd => hp U2 co dp sk lo up fa va mo wi Ux hF2 (fun postY fy ya ys yp yb y1 y2 hfy hk => ?_))))
      obtain ⟨fy, rfl⟩ : ∃ g, fy = g + 1 := ⟨fy - 1, by omega⟩
      refine br_f hge ⟨hi, ?_⟩
      rw [e]
      exact br_t h3 (nm_r (nI_1 s) (hyd postY fy ya ys yp yb y1 y2 (by omega) hk))
    · refine br_f h3 ?_
      unfold wpX_dropIfIdle
      refine ⟨hi, ?_⟩
      rw [e]
      refine nm_e ?_
      refine zr_rec hF (fun co' dp' sk' lo' up' fa' va' mo' wi' hF2 => ?_)
      refine xw_diff hn12 (fun hsame => ?_) (fun hdiff => ?_)
      · refine br_t rfl (nm_r (nI_1 s) (ih (s + 1) f _ co' dp' sk' lo' up' fa' va' mo' wi' _ (by omega) (by omega) hF2 (fun U2 co dp sk lo up fa va mo wi Ux hF3 hyd => hp U2 co dp sk lo up fa va mo wi Ux hF3 (fun postY fy ya ys yp yb y1 y2 hfy hk => ?_))))
        obtain ⟨fy, rfl⟩ : ∃ g, fy = g + 1 := ⟨fy - 1, by omega⟩
        refine br_f hge ⟨hi, ?_⟩
        rw [e]
        refine br_f h3 ⟨hi, nm_e ?_⟩
        refine zy_set hF2 (fun ya ys hy => ?_)
        refine yw_diff hn12 (fun _ => ?_) (fun z => absurd (fun t ht => ((hy t ht).trans (hsame t ht)).trans (y1 t ht).symm) z)
        exact br_t rfl (nm_r (nI_1 s) (hyd postY fy ya ys yp yb y1 y2 (by omega) hk))
      · refine br_f (by decide) ⟨hi, hi, nm_e (nm_r (nI_1 s) (ih (s + 1) f _ co' dp' sk' lo' up' fa' va' mo' wi' _ (by omega) (by omega) hF2 (fun U2 co dp sk lo up fa va mo wi Ux hF3 hyd => hp U2 co dp sk lo up fa va mo wi Ux hF3 (fun postY fy ya ys yp yb y1 y2 hfy hk => ?_))))⟩
        obtain ⟨fy, rfl⟩ : ∃ g, fy = g + 1 := ⟨fy - 1, by omega⟩
        refine br_f hge ⟨hi, ?_⟩
        rw [e]
        refine br_f h3 ⟨hi, nm_e ?_⟩
        refine zy_set hF2 (fun ya ys hy => ?_)
        refine yw_diff hn12 (fun z => absurd (fun t ht => ((hy t ht).symm.trans (z t ht)).trans (y1 t ht)) hdiff) (fun _ => ?_)
        refine br_f (by decide) ⟨hi, hi, ?_⟩
        rw [y2 s (by omega)]
        exact nm_e (nm_r (nI_1 s) (hyd postY fy ya ys yp yb y1 y2 (by omega) hk))
end
theorem i_vc_save {k : Nat} {u : SX} {v : SY} (I : i_Rel k u v) (hk : k + 4 ≤ 2051) : wpX_save (fun r u' => wpY_save (fun r' v' => r' = r ∧ i_Rel (k + 4) u' v') v) u := by
  refine zz_el (P := fun u v => wpX_save (fun r u' => wpY_save (fun r' v' => r' = r ∧ i_Rel (k + 4) u' v') v) u) ?_ I
  intro ns nc mr ct jn pn hn fn dp B H U lo up fa va me mt mo wi K A D R co T sk ne od su sv fi ya yp yb S C L Y ys yr hF
  have hF' := hF
  obtain ⟨⟨hd1, hn12, hd2, hnc, hd3, hmr, hct, hd4⟩, -⟩ := hF'
  refine Exists.intro (ns + 1) (xw_s2 hn12 (fun su sv h1 h2 => ⟨ns + 1, ?_⟩) ns 0 (ns + 1) su sv (by omega) (by omega) (fun t ht => absurd ht (by omega)) (fun t ht => absurd ht (by omega)))
  refine xw_42 (yr := yr) (Ux := U) hn12 ns 0 (ns + 1) U co dp sk lo up fa va mo wi (by omega) (by omega) hF (fun U2 co2 dp2 sk2 lo2 up2 fa2 va2 mo2 wi2 Ux hF2 hyd => ?_)
  have hw := tc_wf_l (U := U2) ns 0 0 fi
  refine br_t (nI_le (Nat.le_refl _) (by omega)) ?_
  refine Exists.intro (ns + 1) (xw_wl hn12 ns 0 0 (ns + 1) fi (by omega) (by omega) (by omega) ?_)
  refine ⟨ns + 1, xw_78 (U0 := U2) hn12 ?_ ns 0 (ns + 1) U2 (by omega) (by omega) (fun j => (if_neg (by omega)).symm)⟩
  refine zr_rec (zf_fn hF2 (show 4 * (tc_wf U2 ns 0 0 fi).1 ≤ 96 by omega)) (fun co3 dp3 sk3 lo3 up3 fa3 va3 mo3 wi3 hF3 => ?_)
  unfold wpY_save
  refine zy_set hF (fun ya ys hy => ?_)
  refine Exists.intro (ns + 1) (yw_s6 hn12 (fun yp yb y1 y2 => ⟨ns + 1, ?_⟩) ns 0 (ns + 1) yp yb (by omega) (by omega) (fun t ht => absurd ht (by omega)) (fun t ht => absurd ht (by omega)))
  refine hyd _ (ns + 1) ya ys yp yb (fun t ht => ((y1 t ht).trans (hy t ht)).trans (h2 t ht).symm) (fun t ht => (y2 t ht).trans (h1 t ht).symm) (by omega) (fun ya ys => ⟨ns + 1, ?_⟩)
  refine yw_w (U0 := U2) hn12 ns 0 0 (ns + 1) U2 fi (by omega) (by omega) (by omega) (fun j => (if_neg (by omega)).symm) ⟨rfl, ?_⟩
  have eU : tc_Ub ns yb U2 = tc_Ub ns su U2 := by
    funext j
    unfold tc_Ub
    by_cases z : j < ns
    · rw [if_pos z, if_pos z, y2 j z, h1 j z]
    · rw [if_neg z, if_neg z]
  rw [eU]
  exact zz_in hF3
end
