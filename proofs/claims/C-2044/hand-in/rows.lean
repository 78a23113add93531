section
theorem pk_us {f : Nat → Int32} {k : Nat} {x : Int32} : upd f k x k = x := if_pos rfl
theorem pk_un {f : Nat → Int32} {k j : Nat} {x : Int32} (h : j ≠ k) : upd f k x j = f j := if_neg h
theorem pk_uLs {f : Nat → Int64} {k : Nat} {x : Int64} : vp_updL f k x k = x := if_pos rfl
theorem pk_uLn {f : Nat → Int64} {k j : Nat} {x : Int64} (h : j ≠ k) : vp_updL f k x j = f j := if_neg h
theorem pk_sub {a b : Nat} (h : b ≤ a) : nI a - nI b = nI (a - b) := by
  obtain ⟨c, rfl⟩ : ∃ c, a = c + b := ⟨a - b, by omega⟩
  rw [← nI_add, Int32.add_sub_cancel, Nat.add_sub_cancel]
theorem pk_m1 (n : Nat) : nI (n + 1) + (-1) = nI n := by
  rw [← nI_1, Int32.add_assoc, show (1 : Int32) + (-1) = 0 from rfl, Int32.add_zero]
theorem pk_mul (a b : Nat) : nI a * nI b = nI (a * b) := (Int32.ofNat_mul a b).symm
theorem pk_le {x y : Int32} {A B : Prop} (a b : Nat) (f : a ≤ b → A) (g : b < a → B) (hx : x = nI a := by rfl) (hy : y = nI b := by rfl) (ha : a < 2 ^ 31 := by omega) (hb : b < 2 ^ 31 := by omega) : (x ≤ y → A) ∧ (¬ x ≤ y → B) := by
  subst hx hy
  rw [nI_leI ha hb]
  exact ⟨f, fun z => g (by omega)⟩
theorem pk_lt {x y : Int32} {A B : Prop} (a b : Nat) (f : a < b → A) (g : b ≤ a → B) (hx : x = nI a := by rfl) (hy : y = nI b := by rfl) (ha : a < 2 ^ 31 := by omega) (hb : b < 2 ^ 31 := by omega) : (x < y → A) ∧ (¬ x < y → B) := by
  subst hx hy
  rw [nI_ltI ha hb]
  exact ⟨f, fun z => g (by omega)⟩
theorem pk_eq {x y : Int32} {A B : Prop} (a b : Nat) (f : a = b → A) (g : a ≠ b → B) (hx : x = nI a := by rfl) (hy : y = nI b := by rfl) (ha : a < 2 ^ 31 := by omega) (hb : b < 2 ^ 31 := by omega) : (x = y → A) ∧ (¬ x = y → B) := by
  subst hx hy
  rw [nI_eq ha hb]
  exact ⟨f, g⟩
theorem pk_in {x : Int32} (n N : Nat) (h : n < N) (hx : x = nI n := by rfl) (hN : N < 2 ^ 31 := by omega) : vp_in x N := by
  subst hx
  exact vp_in_nI h hN
theorem pk_cl {x : Int32} (n : Nat) (hx : x = nI n := by rfl) (h : n < 2 ^ 31 := by omega) : x.toNatClampNeg = n := by
  subst hx
  exact nI_clamp h
theorem pk_tn {n : Nat} (h : n < 2 ^ 32) : (nI n).toBitVec.toNat = n := Nat.mod_eq_of_lt h
theorem pk_and (x : Int32) {m : Int32} (k : Nat) (hm : m.toBitVec.toNat = 2 ^ k - 1) : x &&& m = nI (x.toBitVec.toNat % 2 ^ k) := by
  apply Int32.toBitVec_inj.mp
  apply BitVec.eq_of_toNat_eq
  rw [Int32.toBitVec_and, BitVec.toNat_and, hm, Nat.and_two_pow_sub_one_eq_mod]
  show _ = (BitVec.ofNat 32 _).toNat
  rw [BitVec.toNat_ofNat]
  exact (Nat.mod_eq_of_lt (Nat.lt_of_le_of_lt (Nat.mod_le _ _) x.toBitVec.isLt)).symm
theorem pk_andN {n : Nat} (h : n < 2 ^ 32) {m : Int32} (k : Nat) (hm : m.toBitVec.toNat = 2 ^ k - 1) : nI n &&& m = nI (n % 2 ^ k) := by
  rw [pk_and _ k hm, pk_tn h]
theorem pk_andE (x : Int32) {m : Int32} (k : Nat) (hm : m.toBitVec.toNat = 2 ^ k - 1) : ∃ j : Nat, j < 2 ^ k ∧ x &&& m = nI j := ⟨_, Nat.mod_lt _ (Nat.two_pow_pos k), pk_and x k hm⟩
theorem pk_andIn (x : Int32) {m : Int32} (k : Nat) (hm : m.toBitVec.toNat = 2 ^ k - 1) (hk : k ≤ 30) : vp_in (x &&& m) (2 ^ k) := by
  obtain ⟨j, hj, e⟩ := pk_andE x k hm
  rw [e]
  exact vp_in_nI hj (Nat.lt_of_le_of_lt (Nat.pow_le_pow_right (by decide) hk) (by decide))
def bt (x : Int32) (i : Nat) : Bool := x.toBitVec.getLsbD i
theorem b_ext {x y : Int32} (h : ∀ i, i < 32 → bt x i = bt y i) : x = y := Int32.toBitVec_inj.mp (BitVec.eq_of_getLsbD_eq (fun i hi => h i hi))
theorem b_or (x y : Int32) (i : Nat) : bt (x ||| y) i = (bt x i || bt y i) := by unfold bt; rw [Int32.toBitVec_or, BitVec.getLsbD_or]
theorem b_and (x y : Int32) (i : Nat) : bt (x &&& y) i = (bt x i && bt y i) := by unfold bt; rw [Int32.toBitVec_and, BitVec.getLsbD_and]
theorem b_xor (x y : Int32) (i : Nat) : bt (x ^^^ y) i = (bt x i ^^ bt y i) := by unfold bt; rw [Int32.toBitVec_xor, BitVec.getLsbD_xor]
theorem b_big {x : Int32} {i : Nat} (h : 32 ≤ i) : bt x i = false := BitVec.getLsbD_of_ge _ _ h
theorem b_m1 : ∀ i, i < 32 → bt (-1) i = true := by decide +kernel
theorem b_0 (i : Nat) : bt 0 i = false := BitVec.getLsbD_zero
theorem s_l : ∀ n, n < 32 → ((nI n &&& 31).toBitVec.smod 32).toNat = n := by decide +kernel
theorem s_u : ∀ n, n < 32 → (((nI n).toUInt32 &&& Int32.toUInt32 31).toBitVec % 32).toNat = n := by decide +kernel
theorem b_shl (n : Nat) (hn : n < 32) (x : Int32) {i : Nat} (hi : i < 32) : bt (x <<< (nI n &&& 31)) i = (decide (n ≤ i) && bt x (i - n)) := by
  unfold bt
  rw [Int32.toBitVec_shiftLeft]
  show (x.toBitVec <<< ((nI n &&& 31).toBitVec.smod 32).toNat).getLsbD i = _
  rw [s_l n hn, BitVec.getLsbD_shiftLeft]
  rcases Nat.lt_or_ge i n with h | h
  · simp [h, Nat.not_le.mpr h]
  · simp [hi, h, Nat.not_lt.mpr h]
theorem b_ushr (n : Nat) (hn : n < 32) (x : Int32) (i : Nat) : bt ((x.toUInt32 >>> ((nI n).toUInt32 &&& Int32.toUInt32 31)).toInt32) i = bt x (n + i) := by
  show (x.toUInt32 >>> ((nI n).toUInt32 &&& Int32.toUInt32 31)).toBitVec.getLsbD i = x.toUInt32.toBitVec.getLsbD (n + i)
  rw [UInt32.toBitVec_shiftRight]
  show (x.toUInt32.toBitVec >>> (((nI n).toUInt32 &&& Int32.toUInt32 31).toBitVec % 32).toNat).getLsbD i = _
  rw [s_u n hn, BitVec.getLsbD_ushiftRight]
end
section
/-! the thread as a pure machine; sums and counts over threads -/
def wa_i3 (x : Int32) : Nat := x.toBitVec.toNat % 4
def wa_i15 (x : Int32) : Nat := x.toBitVec.toNat % 16
def wa_i31 (x : Int32) : Nat := x.toBitVec.toNat % 32
theorem wa_i3l (x : Int32) : wa_i3 x < 4 := Nat.mod_lt _ (by decide)
theorem wa_i15l (x : Int32) : wa_i15 x < 16 := Nat.mod_lt _ (by decide)
theorem wa_i31l (x : Int32) : wa_i31 x < 32 := Nat.mod_lt _ (by decide)
theorem wa_e3 (x : Int32) : x &&& 3 = nI (wa_i3 x) := pk_and x 2 (by decide)
theorem wa_e15 (x : Int32) : x &&& 15 = nI (wa_i15 x) := pk_and x 4 (by decide)
theorem wa_e31 (x : Int32) : x &&& 31 = nI (wa_i31 x) := pk_and x 5 (by decide)
theorem wa_ix (t : Nat) (x : Int32) : 4 * nI t + (x &&& 3) = nI (4 * t + wa_i3 x) := by
  rw [wa_e3]
  show nI 4 * nI t + _ = _
  rw [pk_mul, nI_add]
theorem wa_ixl {t : Nat} (h : t < 8) (x : Int32) : 4 * t + wa_i3 x < 32 := by
  have := wa_i3l x
  omega
theorem wa_cl {n : Nat} (h : n < 64) : (nI n).toNatClampNeg = n := nI_clamp (by omega)
def wa_calc (o x y : Int32) : Int32 := if o = 1 then x + y else if o = 2 then x - y else if o = 3 then x * y else if o = 4 then x &&& y else if y ≤ x then 0 else 1
section
variable (L : Nat) (op oA oB oC inn : Nat → Int32)
def wa_val (t l : Nat) (x y : Int32) : Int32 := if op l = 0 then oB l else if op l = 6 then nI t else if op l = 7 then inn (wa_i15 x) else wa_calc (op l) x y
/-- the registers behind the line l for thread t, whose registers begin at b -/
def wa_R (t l b : Nat) (r : Nat → Int32) : Nat → Int32 := if 7 < op l then r else upd r (b + wa_i3 (oA l)) (wa_val op oB inn t l (r (b + wa_i3 (oB l))) (r (b + wa_i3 (oC l))))
/-- the output behind the line -/
def wa_O (l b : Nat) (r o : Nat → Int32) : Nat → Int32 := if op l = 8 then upd o (wa_i15 (r (b + wa_i3 (oA l)))) (o (wa_i15 (r (b + wa_i3 (oA l)))) + r (b + wa_i3 (oB l))) else o
/-- the line with which the thread goes on -/
def wa_N (l b : Nat) (r : Nat → Int32) : Nat := if op l = 9 then wa_i31 (oB l) else if op l = 10 then (if r (b + wa_i3 (oA l)) = 0 then wa_i31 (oB l) else l + 1) else l + 1
/-- a thread with f steps left: line, steps done, state, registers, what it adds to the output -/
def wa_run (t : Nat) : Nat → Nat → (Nat → Int32) → (Nat → Int32) → Nat × Nat × Nat × (Nat → Int32) × (Nat → Int32)
  | 0, l, r, o => (l, 48, if L ≤ l then 1 else 2, r, o)
  | f + 1, l, r, o => if L ≤ l then (l, 47 - f, 1, r, o) else if op l = 11 then (l, 48 - f, 1, r, o) else wa_run t f (wa_N op oA oB l 0 r) (wa_R op oA oB oC inn t l 0 r) (wa_O op oA oB l 0 r o)
def wa_fin (t : Nat) : Nat × Nat × Nat × (Nat → Int32) × (Nat → Int32) := wa_run L op oA oB oC inn t 48 0 (fun _ => 0) (fun _ => 0)
end
/-- the four registers of thread t -/
def wa_g (r : Nat → Int32) (t : Nat) : Nat → Int32 := fun j => if j < 4 then r (4 * t + j) else 0
theorem wa_gat (r : Nat → Int32) (t : Nat) {j : Nat} (h : j < 4) : wa_g r t j = r (4 * t + j) := if_pos h
theorem wa_g0 (r : Nat → Int32) (t : Nat) (h : ∀ j, j < 4 → r (4 * t + j) = 0) : wa_g r t = fun _ => 0 := by
  funext j
  unfold wa_g
  by_cases hj : j < 4
  · rw [if_pos hj]; exact h j hj
  · rw [if_neg hj]
theorem wa_gu (r : Nat → Int32) (t a : Nat) (v : Int32) (h : a < 4) : wa_g (upd r (4 * t + a) v) t = upd (wa_g r t) a v := by
  funext j
  unfold wa_g upd
  by_cases hj : j < 4
  · by_cases e : j = a
    · subst e; simp [hj]
    · simp [hj, e]
  · have e : j ≠ a := by omega
    simp [hj, e]
theorem wa_gn (r : Nat → Int32) (t s a : Nat) (v : Int32) (h : a < 4) (hs : s ≠ t) : wa_g (upd r (4 * t + a) v) s = wa_g r s := by
  funext j
  unfold wa_g upd
  by_cases hj : j < 4
  · have e : ¬ 4 * s + j = 4 * t + a := by omega
    simp [hj, e]
  · simp [hj]
section
variable {L : Nat} {op oA oB oC inn : Nat → Int32}
theorem wa_Rg (t l : Nat) (r : Nat → Int32) : wa_g (wa_R op oA oB oC inn t l (4 * t) r) t = wa_R op oA oB oC inn t l 0 (wa_g r t) := by
  unfold wa_R
  by_cases h : 7 < op l
  · rw [if_pos h, if_pos h]
  · rw [if_neg h, if_neg h, wa_gu _ _ _ _ (wa_i3l _), Nat.zero_add, Nat.zero_add, Nat.zero_add, wa_gat _ _ (wa_i3l _), wa_gat _ _ (wa_i3l _)]
theorem wa_Rn (t l s : Nat) (r : Nat → Int32) (hs : s ≠ t) : wa_g (wa_R op oA oB oC inn t l (4 * t) r) s = wa_g r s := by
  unfold wa_R
  by_cases h : 7 < op l
  · rw [if_pos h]
  · rw [if_neg h, wa_gn _ _ _ _ _ (wa_i3l _) hs]
theorem wa_Rid (t l b : Nat) (r : Nat → Int32) (h : 7 < op l) : wa_R op oA oB oC inn t l b r = r := if_pos h
theorem wa_Oid (l b : Nat) (r o : Nat → Int32) (h : ¬ op l = 8) : wa_O op oA oB l b r o = o := if_neg h
/-- what a line adds: the same to the output and to the thread's own account -/
theorem wa_Oadd (t l : Nat) (r o out : Nat → Int32) (c : Nat) : ∃ x : Int32, wa_O op oA oB l (4 * t) r out c = out c + x ∧ wa_O op oA oB l 0 (wa_g r t) o c = o c + x := by
  unfold wa_O
  by_cases h : op l = 8
  · rw [if_pos h, if_pos h, Nat.zero_add, Nat.zero_add, wa_gat _ _ (wa_i3l _), wa_gat _ _ (wa_i3l _)]
    by_cases e : c = wa_i15 (r (4 * t + wa_i3 (oA l)))
    · refine ⟨r (4 * t + wa_i3 (oB l)), ?_, ?_⟩
      · rw [e, pk_us]
      · rw [e, pk_us]
    · exact ⟨0, by rw [pk_un e, Int32.add_zero], by rw [pk_un e, Int32.add_zero]⟩
  · rw [if_neg h, if_neg h]
    exact ⟨0, by rw [Int32.add_zero], by rw [Int32.add_zero]⟩
theorem wa_Nle {l b : Nat} {r : Nat → Int32} (h : l < 32) : wa_N op oA oB l b r ≤ 32 := by
  have := wa_i31l (oB l)
  unfold wa_N
  split
  · omega
  · split
    · split <;> omega
    · omega
theorem wa_run_end {t f l : Nat} {r o : Nat → Int32} (h : L ≤ l) (hf : f ≤ 48) : wa_run L op oA oB oC inn t f l r o = (l, 48 - f, 1, r, o) := by
  cases f with
  | zero => unfold wa_run; rw [if_pos h]
  | succ f => unfold wa_run; rw [if_pos h]; congr 2; omega
theorem wa_run_tired {t l : Nat} {r o : Nat → Int32} (h : ¬ L ≤ l) : wa_run L op oA oB oC inn t 0 l r o = (l, 48, 2, r, o) := by
  unfold wa_run; rw [if_neg h]
theorem wa_run_11 {t f l : Nat} {r o : Nat → Int32} (h : ¬ L ≤ l) (h11 : op l = 11) : wa_run L op oA oB oC inn t (f + 1) l r o = (l, 48 - f, 1, r, o) := by
  unfold wa_run; rw [if_neg h, if_pos h11]
theorem wa_run_s {t f l : Nat} {r o : Nat → Int32} (h : ¬ L ≤ l) (h11 : ¬ op l = 11) : wa_run L op oA oB oC inn t (f + 1) l r o = wa_run L op oA oB oC inn t f (wa_N op oA oB l 0 r) (wa_R op oA oB oC inn t l 0 r) (wa_O op oA oB l 0 r o) := by
  conv => lhs; unfold wa_run
  rw [if_neg h, if_neg h11]
end
def wa_sm (f : Nat → Int32) : Nat → Int32
  | 0 => 0
  | n + 1 => wa_sm f n + f n
def wa_cn (f : Nat → Bool) : Nat → Nat
  | 0 => 0
  | n + 1 => wa_cn f n + (if f n = true then 1 else 0)
def wa_sn (f : Nat → Nat) : Nat → Nat
  | 0 => 0
  | n + 1 => wa_sn f n + f n
def wa_ct (f : Nat → Int32) : Nat → Int32
  | 0 => 0
  | n + 1 => if f n = 1 then wa_ct f n + 1 else wa_ct f n
theorem wa_ct_e {f g : Nat → Int32} : ∀ n, (∀ s, s < n → f s = g s) → wa_ct f n = wa_ct g n := by
  intro n
  induction n with
  | zero => intro _; rfl
  | succ n ih =>
    intro h
    have e := ih (fun s hs => h s (by omega))
    show (if f n = 1 then wa_ct f n + 1 else wa_ct f n) = (if g n = 1 then wa_ct g n + 1 else wa_ct g n)
    rw [e, h n (by omega)]
theorem wa_sm_e {f g : Nat → Int32} : ∀ n, (∀ s, s < n → f s = g s) → wa_sm f n = wa_sm g n := by
  intro n
  induction n with
  | zero => intro _; rfl
  | succ n ih =>
    intro h
    show wa_sm f n + f n = wa_sm g n + g n
    rw [ih (fun s hs => h s (by omega)), h n (by omega)]
theorem wa_sm_0 : ∀ n, wa_sm (fun _ => 0) n = 0 := by
  intro n
  induction n with
  | zero => rfl
  | succ n ih =>
    show wa_sm (fun _ => 0) n + 0 = 0
    rw [ih]; rfl
theorem wa_sm_a {f g : Nat → Int32} {t : Nat} {x : Int32} (ht : g t = f t + x) : ∀ n, t < n → (∀ s, s < n → s ≠ t → g s = f s) → wa_sm g n = wa_sm f n + x := by
  intro n
  induction n with
  | zero => intro h; omega
  | succ n ih =>
    intro hn h
    show wa_sm g n + g n = wa_sm f n + f n + x
    by_cases e : t = n
    · rw [wa_sm_e (f := g) (g := f) n (fun s hs => h s (by omega) (by omega)), ← e, ht, Int32.add_assoc]
    · rw [ih (by omega) (fun s hs hne => h s (by omega) hne), h n (by omega) (by omega), Int32.add_assoc, Int32.add_assoc, Int32.add_comm x]
theorem wa_cn_le {f g : Nat → Bool} : ∀ n, (∀ s, s < n → f s = true → g s = true) → wa_cn f n ≤ wa_cn g n := by
  intro n
  induction n with
  | zero => intro _; exact Nat.le_refl _
  | succ n ih =>
    intro h
    have e := ih (fun s hs => h s (by omega))
    have e2 := h n (by omega)
    show wa_cn f n + (if f n = true then 1 else 0) ≤ wa_cn g n + (if g n = true then 1 else 0)
    by_cases hf : f n = true
    · rw [if_pos hf, if_pos (e2 hf)]; omega
    · rw [if_neg hf]; omega
theorem wa_cn_lt {f g : Nat → Bool} {t : Nat} (hf : f t = false) (hg : g t = true) : ∀ n, t < n → (∀ s, s < n → f s = true → g s = true) → wa_cn f n + 1 ≤ wa_cn g n := by
  intro n
  induction n with
  | zero => intro h; omega
  | succ n ih =>
    intro hn h
    show wa_cn f n + (if f n = true then 1 else 0) + 1 ≤ wa_cn g n + (if g n = true then 1 else 0)
    by_cases e : t = n
    · subst e
      have := wa_cn_le t (fun s hs => h s (by omega))
      rw [hf, hg, if_neg (by decide), if_pos rfl]; omega
    · have := ih (by omega) (fun s hs => h s (by omega))
      have e2 := h n (by omega)
      by_cases hfn : f n = true
      · rw [if_pos hfn, if_pos (e2 hfn)]; omega
      · rw [if_neg hfn]; omega
theorem wa_cn_n (f : Nat → Bool) : ∀ n, wa_cn f n ≤ n := by
  intro n
  induction n with
  | zero => exact Nat.le_refl _
  | succ n ih =>
    show wa_cn f n + (if f n = true then 1 else 0) ≤ n + 1
    split <;> omega
theorem wa_sn_le {f g : Nat → Nat} : ∀ n, (∀ s, s < n → f s ≤ g s) → wa_sn f n ≤ wa_sn g n := by
  intro n
  induction n with
  | zero => intro _; exact Nat.le_refl _
  | succ n ih =>
    intro h
    have e := ih (fun s hs => h s (by omega))
    have e2 := h n (by omega)
    show wa_sn f n + f n ≤ wa_sn g n + g n
    omega
theorem wa_sn_lt {f g : Nat → Nat} {t : Nat} (ht : f t + 1 ≤ g t) : ∀ n, t < n → (∀ s, s < n → f s ≤ g s) → wa_sn f n + 1 ≤ wa_sn g n := by
  intro n
  induction n with
  | zero => intro h; omega
  | succ n ih =>
    intro hn h
    show wa_sn f n + f n + 1 ≤ wa_sn g n + g n
    by_cases e : t = n
    · subst e
      have := wa_sn_le t (fun s hs => h s (by omega))
      omega
    · have := ih (by omega) (fun s hs => h s (by omega))
      have := h n (by omega)
      omega
theorem wa_sn_c (c : Nat) : ∀ n, wa_sn (fun _ => c) n = c * n := by
  intro n
  induction n with
  | zero => rfl
  | succ n ih =>
    show wa_sn (fun _ => c) n + c = c * (n + 1)
    rw [ih, Nat.mul_succ]
/-! bits -/
theorem wa_b1 : ∀ i, bt 1 i = decide (i = 0) := by
  intro i
  rcases Nat.lt_or_ge i 32 with h | h
  · exact (by decide +kernel : ∀ i, i < 32 → bt 1 i = decide (i = 0)) i h
  · rw [b_big h, decide_eq_false (by omega)]
theorem wa_bz {x : Int32} : x = 0 ↔ ∀ i, i < 32 → bt x i = false := by
  constructor
  · intro h i _; rw [h]; exact b_0 i
  · intro h; exact b_ext (fun i hi => by rw [h i hi, b_0])
theorem wa_bit (x : Int32) {t : Nat} (ht : t < 32) : (((x.toUInt32 >>> ((nI t).toUInt32 &&& Int32.toUInt32 31)).toInt32) &&& 1) = 0 ↔ bt x t = false := by
  rw [wa_bz]
  constructor
  · intro h
    have h0 := h 0 (by decide)
    rw [b_and, b_ushr t ht, wa_b1] at h0
    simpa using h0
  · intro h i hi
    rw [b_and, b_ushr t ht, wa_b1]
    by_cases e : i = 0
    · subst e; rw [Nat.add_zero, h]; rfl
    · rw [decide_eq_false e, Bool.and_false]
theorem wa_bsh {t : Nat} (ht : t < 32) (i : Nat) : bt ((1 : Int32) <<< (nI t &&& 31)) i = decide (i = t) := by
  rcases Nat.lt_or_ge i 32 with h | h
  · rw [b_shl t ht 1 h, wa_b1]
    by_cases e : i = t
    · subst e; simp
    · rw [decide_eq_false e]
      by_cases e2 : t ≤ i
      · rw [decide_eq_false (show ¬ i - t = 0 by omega), Bool.and_false]
      · rw [decide_eq_false e2, Bool.false_and]
  · rw [b_big h, decide_eq_false (by omega)]
theorem wa_bnot (x y : Int32) (i : Nat) : bt (x &&& (y ^^^ (-1))) i = (bt x i && !bt y i) := by
  rw [b_and, b_xor]
  rcases Nat.lt_or_ge i 32 with h | h
  · rw [b_m1 i h, Bool.xor_true]
  · rw [b_big h, Bool.false_and, Bool.false_and]
theorem wa_ball : ∀ T, T ≤ 8 → ∀ i, bt (((1 : Int32) <<< (nI T &&& 31)) - 1) i = decide (i < T) := by
  intro T hT i
  rcases Nat.lt_or_ge i 32 with h | h
  · exact (by decide +kernel : ∀ T, T < 9 → ∀ i, i < 32 → bt (((1 : Int32) <<< (nI T &&& 31)) - 1) i = decide (i < T)) T (by omega) i h
  · rw [b_big h, decide_eq_false (by omega)]
/-- a mask that isn't empty holds a thread -/
theorem wa_ne {x : Int32} {T : Nat} (hb : ∀ i, T ≤ i → bt x i = false) (h : ¬ x = 0) : ∃ t, t < T ∧ bt x t = true := by
  apply Classical.byContradiction
  intro hn
  apply h
  rw [wa_bz]
  intro i _
  rcases Nat.lt_or_ge i T with h1 | h1
  · cases hc : bt x i with
    | false => rfl
    | true => exact absurd ⟨i, h1, hc⟩ hn
  · exact hb i h1
end
section
/-! X: findMeetings (only that it ends, with meeting lines within 0 .. 32), reset -/
theorem wa_s {n : Nat} (h : 0 < n) : ∃ m, n = m + 1 := ⟨n - 1, by omega⟩
theorem wa_u0 {a : Nat → Int32} {i : Nat} (h : ∀ j, j < i → a j = 0) : ∀ j, j < i + 1 → upd a i 0 j = 0 := by
  intro j hj
  by_cases e : j = i
  · rw [e, pk_us]
  · rw [pk_un e]; exact h j (by omega)
section
variable {T L : Nat} {al dp : Int32} {op oA oB oC inn out rg lo st so : Nat → Int32} {pas : Nat → Int64} {mt pl pe pm : Nat → Int32}
theorem wx_near {post : Int32 → Prop} {x2 : Int64} (hL : L ≤ 32) (K : ∀ m, m ≤ 32 → post (nI m)) : ∀ d i, i + d = L → ∀ n, d < n → wX_nearest_18 post x2 (nI T) (nI L) al dp op oA oB oC inn out rg lo st so pas mt pl pe pm n (nI i) := by
  intro d
  induction d with
  | zero =>
    intro i hi n hn
    obtain ⟨n, rfl⟩ := wa_s hn
    exact br_t (nI_le (by omega) (by omega)) (K _ hL)
  | succ d ih =>
    intro i hi n hn
    obtain ⟨n, rfl⟩ := wa_s (Nat.lt_of_le_of_lt (Nat.zero_le _) hn)
    have h : ¬ nI L ≤ nI i := nI_ge (by omega) (by omega)
    have c := ih (i + 1) (by omega) n (by omega)
    exact br_f h (br_c (fun _ => nm_r (nI_1 i) c) (fun _ => And.intro (vp_in_nI (by omega) (by omega)) (br_c (fun _ => K i (by omega)) (fun _ => nm_r (nI_1 i) c))))
theorem wx_nearest {post : Int32 → Prop} (hL : L ≤ 32) (K : ∀ m, m ≤ 32 → post (nI m)) {i : Nat} (hi : i < 33) : wpX_nearest post (nI T, nI L, al, dp, op, oA, oB, oC, inn, out, rg, lo, st, so, pas, mt, pl, pe, pm) (nI i) := by
  unfold wpX_nearest
  dsimp only
  exact And.intro (vp_in_nI hi (by omega)) (nm_e ⟨L + 1, wx_near hL K L 0 (by omega) _ (by omega)⟩)
theorem wx_capped {post : Int32 → Prop} (hL : L ≤ 32) (K : ∀ m, m ≤ 32 → post (nI m)) {j : Nat} (hj : j < 64) : wpX_capped post (nI T, nI L, al, dp, op, oA, oB, oC, inn, out, rg, lo, st, so, pas, mt, pl, pe, pm) (nI j) :=
  pk_le L j (fun _ => K L hL) (fun _ => K j (by omega))
theorem wx_behind {post : Int64 → Prop} (hL : L ≤ 32) (K : ∀ v, post v) {i : Nat} (hi : i < L) : wpX_behind post (nI T, nI L, al, dp, op, oA, oB, oC, inn, out, rg, lo, st, so, pas, mt, pl, pe, pm) (nI i) := by
  unfold wpX_behind
  dsimp only
  have h32 : vp_in (nI i) 32 := vp_in_nI (by omega) (by omega)
  refine And.intro h32 (br_c (fun _ => And.intro (vp_in_nI (by omega) (by omega)) (K _)) (fun _ => ?_))
  rw [nI_1, wa_e31]
  refine wx_capped hL (fun m hm => And.intro h32 ?_) (by omega)
  refine wx_capped hL (fun m' hm' => ?_) (Nat.lt_trans (wa_i31l _) (by omega))
  have a : vp_in (nI m) 33 := vp_in_nI (by omega) (by omega)
  have b : vp_in (nI m') 33 := vp_in_nI (by omega) (by omega)
  exact And.intro h32 (br_c (fun _ => And.intro b (K _)) (fun _ => And.intro h32 (br_c (fun _ => And.intro a (And.intro b (K _))) (fun _ => And.intro a (K _)))))
theorem wx_f140 {post : SX → Prop} (hL : L ≤ 32) (K : ∀ mt', (∀ j, j < L → ∃ m, m ≤ 32 ∧ mt' j = nI m) → post (nI T, nI L, al, dp, op, oA, oB, oC, inn, out, rg, lo, st, so, pas, mt', pl, pe, pm)) : ∀ d i mt, i + d = L → (∀ j, j < i → ∃ m, m ≤ 32 ∧ mt j = nI m) → ∀ n, d < n → wX_findMeetings_140 post (nI T) (nI L) al dp n (nI i) op oA oB oC inn out rg lo st so pas mt pl pe pm := by
  intro d
  induction d with
  | zero =>
    intro i mt hi hm n hn
    obtain ⟨n, rfl⟩ := wa_s hn
    exact br_t (nI_le (by omega) (by omega)) (K mt (fun j hj => hm j (by omega)))
  | succ d ih =>
    intro i mt hi hm n hn
    obtain ⟨n, rfl⟩ := wa_s (Nat.lt_of_le_of_lt (Nat.zero_le _) hn)
    have h : ¬ nI L ≤ nI i := nI_ge (by omega) (by omega)
    refine br_f h (wx_nearest hL (fun m hm' => And.intro (vp_in_nI (by omega) (by omega)) (nm_r (e' := upd mt i (nI m)) ?_ (nm_r (nI_1 i) (ih (i + 1) _ (by omega) ?_ n (by omega))))) (by omega))
    · rw [wa_cl (by omega)]
    · intro j hj
      by_cases e : j = i
      · exact ⟨m, hm', by rw [e, pk_us]⟩
      · obtain ⟨q, hq, e2⟩ := hm j (by omega)
        exact ⟨q, hq, by rw [pk_un e, e2]⟩
theorem wx_f75 {post : SX → Prop} {J : Int32 → Int32 → (Nat → Int32) → (Nat → Int32) → (Nat → Int32) → (Nat → Int32) → (Nat → Int32) → (Nat → Int32) → (Nat → Int32) → (Nat → Int32) → (Nat → Int32) → (Nat → Int32) → (Nat → Int64) → (Nat → Int32) → (Nat → Int32) → (Nat → Int32) → (Nat → Int32) → Prop} {x4 : Int32} (hL : L ≤ 32) (K : ∀ x3 pas', J x3 (x4 + 1) op oA oB oC inn out rg lo st so pas' mt pl pe pm) : ∀ i, i ≤ L → ∀ x3 pas n, i < n → wX_findMeetings_75 post J x4 (nI T) (nI L) al dp n x3 (nI i + (-1)) op oA oB oC inn out rg lo st so pas mt pl pe pm := by
  intro i
  induction i with
  | zero =>
    intro _ x3 pas n hn
    obtain ⟨n, rfl⟩ := wa_s hn
    exact br_t (by decide) (nm_e (K _ _))
  | succ i ih =>
    intro hi x3 pas n hn
    obtain ⟨n, rfl⟩ := wa_s (Nat.lt_of_le_of_lt (Nat.zero_le _) hn)
    rw [pk_m1]
    have h33 : vp_in (nI i) 33 := vp_in_nI (by omega) (by omega)
    refine br_f (nI_pos (by omega)) (wx_behind hL (fun v => nm_e ?_) (by omega))
    have q : ∀ z0 w, wX_findMeetings_115 post J (wX_findMeetings_75 post J x4 (nI T) (nI L) al dp n) x4 (nI i) w z0 (nI T) (nI L) al dp op oA oB oC inn out rg lo st so pas mt pl pe pm := fun z0 w => And.intro h33 (nm_e (nm_e (ih (by omega) z0 _ n (by omega))))
    exact br_c (fun _ => And.intro h33 (br_c (fun _ => q _ _) (fun _ => q _ _))) (fun _ => q _ _)
theorem wx_f54 {post : SX → Prop} (hL : L ≤ 32) (K : ∀ pas' mt', (∀ j, j < L → ∃ m, m ≤ 32 ∧ mt' j = nI m) → post (nI T, nI L, al, dp, op, oA, oB, oC, inn, out, rg, lo, st, so, pas', mt', pl, pe, pm)) : ∀ d i, i + d = 40 → ∀ x3 pas n, d < n → wX_findMeetings_54 post (nI T) (nI L) al dp n x3 (nI i) op oA oB oC inn out rg lo st so pas mt pl pe pm := by
  intro d
  have E : ∀ pas, ∃ n140 : Nat, wX_findMeetings_140 post (nI T) (nI L) al dp n140 0 op oA oB oC inn out rg lo st so pas mt pl pe pm := fun pas => ⟨L + 1, wx_f140 hL (K pas) L 0 mt (by omega) (fun j hj => absurd hj (by omega)) _ (by omega)⟩
  induction d with
  | zero =>
    intro i hi x3 pas n hn
    obtain ⟨n, rfl⟩ := wa_s hn
    exact br_t (nI_le (a := 40) (by omega) (by omega)) (E _)
  | succ d ih =>
    intro i hi x3 pas n hn
    obtain ⟨n, rfl⟩ := wa_s (Nat.lt_of_le_of_lt (Nat.zero_le _) hn)
    refine br_f (nI_ge (b := 40) (by omega) (by omega)) (br_c (fun _ => E _) (fun _ => nm_r (Int32.sub_eq_add_neg (nI L) 1) ⟨L + 1, wx_f75 hL ?_ L (Nat.le_refl _) _ _ _ (by omega)⟩))
    intro x3 pas'
    rw [nI_1]
    exact ih (i + 1) (by omega) x3 pas' n (by omega)
theorem wx_f13 {post : SX → Prop} {x1 : Int64} (hL : L ≤ 32) (K : ∀ pas' mt', (∀ j, j < L → ∃ m, m ≤ 32 ∧ mt' j = nI m) → post (nI T, nI L, al, dp, op, oA, oB, oC, inn, out, rg, lo, st, so, pas', mt', pl, pe, pm)) : ∀ d i pas, i + d = L → ∀ n, d < n → wX_findMeetings_13 post x1 (nI T) (nI L) al dp n (nI i) op oA oB oC inn out rg lo st so pas mt pl pe pm := by
  intro d
  induction d with
  | zero =>
    intro i pas hi n hn
    obtain ⟨n, rfl⟩ := wa_s hn
    exact br_t (nI_le (by omega) (by omega)) (And.intro (vp_in_nI (by omega) (by omega)) (nm_e ⟨41, wx_f54 hL K 40 0 rfl 1 _ _ (by omega)⟩))
  | succ d ih =>
    intro i pas hi n hn
    obtain ⟨n, rfl⟩ := wa_s (Nat.lt_of_le_of_lt (Nat.zero_le _) hn)
    exact br_f (nI_ge (by omega) (by omega)) (And.intro (vp_in_nI (by omega) (by omega)) (nm_e (nm_r (nI_1 i) (ih (i + 1) _ (by omega) n (by omega)))))
theorem wx_find {post : SX → Prop} (hL : L ≤ 32) (K : ∀ pas' mt', (∀ j, j < L → ∃ m, m ≤ 32 ∧ mt' j = nI m) → post (nI T, nI L, al, dp, op, oA, oB, oC, inn, out, rg, lo, st, so, pas', mt', pl, pe, pm)) : wpX_findMeetings post (nI T, nI L, al, dp, op, oA, oB, oC, inn, out, rg, lo, st, so, pas, mt, pl, pe, pm) := by
  unfold wpX_findMeetings
  dsimp only
  exact nm_e ⟨L + 1, wx_f13 hL K L 0 pas (by omega) _ (by omega)⟩
theorem wx_r44 {post : SX → Prop} (K : ∀ st', (∀ j, j < 8 → st' j = 0) → post (nI T, nI L, ((1 : Int32) <<< (nI T &&& 31)) - 1, dp, op, oA, oB, oC, inn, out, rg, lo, st', so, pas, mt, pl, pe, pm)) : ∀ d i st, i + d = 8 → (∀ j, j < i → st j = 0) → ∀ n, d < n → wX_reset_44 post (nI T) (nI L) al dp n (nI i) op oA oB oC inn out rg lo st so pas mt pl pe pm := by
  intro d
  induction d with
  | zero =>
    intro i st hi hm n hn
    obtain ⟨n, rfl⟩ := wa_s hn
    exact br_t (nI_le (a := 8) (by omega) (by omega)) (nm_e (K st (fun j hj => hm j (by omega))))
  | succ d ih =>
    intro i st hi hm n hn
    obtain ⟨n, rfl⟩ := wa_s (Nat.lt_of_le_of_lt (Nat.zero_le _) hn)
    refine br_f (nI_ge (b := 8) (by omega) (by omega)) (And.intro (vp_in_nI (by omega) (by omega)) (nm_r (e' := upd st i 0) ?_ (nm_r (nI_1 i) (ih (i + 1) _ (by omega) (wa_u0 hm) n (by omega)))))
    rw [wa_cl (by omega)]
theorem wx_r23 {post : SX → Prop} (K : ∀ rg' st', (∀ j, j < 32 → rg' j = 0) → (∀ j, j < 8 → st' j = 0) → post (nI T, nI L, ((1 : Int32) <<< (nI T &&& 31)) - 1, dp, op, oA, oB, oC, inn, out, rg', lo, st', so, pas, mt, pl, pe, pm)) : ∀ d i rg, i + d = 32 → (∀ j, j < i → rg j = 0) → ∀ n, d < n → wX_reset_23 post (nI T) (nI L) al dp n (nI i) op oA oB oC inn out rg lo st so pas mt pl pe pm := by
  intro d
  induction d with
  | zero =>
    intro i rg hi hm n hn
    obtain ⟨n, rfl⟩ := wa_s hn
    exact br_t (nI_le (a := 32) (by omega) (by omega)) ⟨9, wx_r44 (fun st' h => K rg st' (fun j hj => hm j (by omega)) h) 8 0 st rfl (fun j hj => absurd hj (by omega)) _ (by omega)⟩
  | succ d ih =>
    intro i rg hi hm n hn
    obtain ⟨n, rfl⟩ := wa_s (Nat.lt_of_le_of_lt (Nat.zero_le _) hn)
    refine br_f (nI_ge (b := 32) (by omega) (by omega)) (And.intro (vp_in_nI (by omega) (by omega)) (nm_r (e' := upd rg i 0) ?_ (nm_r (nI_1 i) (ih (i + 1) _ (by omega) (wa_u0 hm) n (by omega)))))
    rw [wa_cl (by omega)]
theorem wx_r2 {post : SX → Prop} (K : ∀ out' rg' st', (∀ j, j < 16 → out' j = 0) → (∀ j, j < 32 → rg' j = 0) → (∀ j, j < 8 → st' j = 0) → post (nI T, nI L, ((1 : Int32) <<< (nI T &&& 31)) - 1, dp, op, oA, oB, oC, inn, out', rg', lo, st', so, pas, mt, pl, pe, pm)) : ∀ d i out, i + d = 16 → (∀ j, j < i → out j = 0) → ∀ n, d < n → wX_reset_2 post (nI T) (nI L) al dp n (nI i) op oA oB oC inn out rg lo st so pas mt pl pe pm := by
  intro d
  induction d with
  | zero =>
    intro i out hi hm n hn
    obtain ⟨n, rfl⟩ := wa_s hn
    exact br_t (nI_le (a := 16) (by omega) (by omega)) ⟨33, wx_r23 (fun rg' st' h h2 => K out rg' st' (fun j hj => hm j (by omega)) h h2) 32 0 rg rfl (fun j hj => absurd hj (by omega)) _ (by omega)⟩
  | succ d ih =>
    intro i out hi hm n hn
    obtain ⟨n, rfl⟩ := wa_s (Nat.lt_of_le_of_lt (Nat.zero_le _) hn)
    refine br_f (nI_ge (b := 16) (by omega) (by omega)) (And.intro (vp_in_nI (by omega) (by omega)) (nm_r (e' := upd out i 0) ?_ (nm_r (nI_1 i) (ih (i + 1) _ (by omega) (wa_u0 hm) n (by omega)))))
    rw [wa_cl (by omega)]
theorem wx_reset {post : SX → Prop} (K : ∀ out' rg' st', (∀ j, j < 16 → out' j = 0) → (∀ j, j < 32 → rg' j = 0) → (∀ j, j < 8 → st' j = 0) → post (nI T, nI L, ((1 : Int32) <<< (nI T &&& 31)) - 1, dp, op, oA, oB, oC, inn, out', rg', lo, st', so, pas, mt, pl, pe, pm)) : wpX_reset post (nI T, nI L, al, dp, op, oA, oB, oC, inn, out, rg, lo, st, so, pas, mt, pl, pe, pm) := by
  unfold wpX_reset
  dsimp only
  exact ⟨17, wx_r2 K 16 0 out rfl (fun j hj => absurd hj (by omega)) _ (by omega)⟩
end
end
section
/-! X: endThreads, work, pushPart and branch, the loop of carryOut -/
theorem wa_7 {o : Int32} (h5 : 5 < o) (h6 : ¬ o = 6) (h7 : ¬ o = 7) : 7 < o := by
  rw [Int32.lt_iff_toInt_lt] at h5 ⊢
  rw [← Int32.toInt_inj] at h6 h7
  have a5 : (5 : Int32).toInt = 5 := by decide
  have a6 : (6 : Int32).toInt = 6 := by decide
  have a7 : (7 : Int32).toInt = 7 := by decide
  omega
theorem wa_5 {o : Int32} (h5 : ¬ 5 < o) : ¬ 7 < o ∧ ¬ o = 6 ∧ ¬ o = 7 ∧ ¬ o = 8 := by
  rw [Int32.lt_iff_toInt_lt] at h5
  rw [Int32.lt_iff_toInt_lt, ← Int32.toInt_inj, ← Int32.toInt_inj, ← Int32.toInt_inj]
  have a5 : (5 : Int32).toInt = 5 := by decide
  have a6 : (6 : Int32).toInt = 6 := by decide
  have a7 : (7 : Int32).toInt = 7 := by decide
  have a8 : (8 : Int32).toInt = 8 := by decide
  omega
theorem wx_calc {post : Int32 → Prop} {o x y : Int32} (K : post (wa_calc o x y)) : wpX_calculate post o x y := by
  unfold wa_calc at K
  refine br_c (fun h => ?_) (fun h => br_c (fun h2 => ?_) (fun h2 => br_c (fun h3 => ?_) (fun h3 => br_c (fun h4 => ?_) (fun h4 => br_c (fun h5 => ?_) (fun h5 => ?_)))))
  · rw [if_pos h] at K; exact K
  · rw [if_neg h, if_pos h2] at K; exact K
  · rw [if_neg h, if_neg h2, if_pos h3] at K; exact K
  · rw [if_neg h, if_neg h2, if_neg h3, if_pos h4] at K; exact K
  · rw [if_neg h, if_neg h2, if_neg h3, if_neg h4, if_pos h5] at K; exact K
  · rw [if_neg h, if_neg h2, if_neg h3, if_neg h4, if_neg h5] at K; exact K
section
variable {T L : Nat} {al dp : Int32} {op oA oB oC inn out rg lo st so : Nat → Int32} {pas : Nat → Int64} {mt pl pe pm : Nat → Int32}
theorem wx_e3 {post : SX → Prop} {M x2 x3 : Int32} (hT : T ≤ 8) : ∀ d i lo so, i + d = T → (∀ lo' so', (∀ t, t < T → i ≤ t → bt M t = true → lo' t = x2 ∧ so' t = x3) → (∀ t, ¬ (i ≤ t ∧ bt M t = true) → lo' t = lo t ∧ so' t = so t) → post (nI T, nI L, al &&& (M ^^^ (-1)), dp, op, oA, oB, oC, inn, out, rg, lo', st, so', pas, mt, pl, pe, pm)) → ∀ n, d < n → wX_endThreads_3 post M x2 x3 (nI T) (nI L) al dp n (nI i) op oA oB oC inn out rg lo st so pas mt pl pe pm := by
  intro d
  induction d with
  | zero =>
    intro i lo so hi K n hn
    obtain ⟨n, rfl⟩ := wa_s hn
    exact br_t (nI_le (by omega) (by omega)) (nm_e (K lo so (fun t h1 h2 _ => absurd h1 (by omega)) (fun t _ => ⟨rfl, rfl⟩)))
  | succ d ih =>
    intro i lo so hi K n hn
    obtain ⟨n, rfl⟩ := wa_s (Nat.lt_of_le_of_lt (Nat.zero_le _) hn)
    have v8 : vp_in (nI i) 8 := vp_in_nI (by omega) (by omega)
    refine br_f (nI_ge (by omega) (by omega)) (br_c (fun hz => nm_r (nI_1 i) (ih (i + 1) lo so (by omega) ?_ n (by omega))) (fun hz => And.intro v8 (nm_r (e' := upd lo i x2) ?_ (And.intro v8 (nm_r (e' := upd so i x3) ?_ (nm_r (nI_1 i) (ih (i + 1) _ _ (by omega) ?_ n (by omega))))))))
    · rw [wa_bit M (by omega)] at hz
      intro lo' so' h1 h2
      refine K lo' so' (fun t ht hit hb => ?_) (fun t hn => h2 t (fun c => hn ⟨by omega, c.2⟩))
      have : t ≠ i := by
        intro e
        rw [e, hz] at hb
        exact absurd hb (by decide)
      exact h1 t ht (by omega) hb
    · rw [wa_cl (by omega)]
    · rw [wa_cl (by omega)]
    · rw [wa_bit M (by omega)] at hz
      intro lo' so' h1 h2
      refine K lo' so' (fun t ht hit hb => ?_) (fun t hn => ?_)
      · by_cases e : t = i
        · have := h2 t (fun c => absurd c.1 (by omega))
          rw [e, pk_us, pk_us] at this
          rw [e]
          exact this
        · exact h1 t ht (by omega) hb
      · have e : t ≠ i := by
          intro e
          apply hn
          rw [e]
          refine ⟨Nat.le_refl _, ?_⟩
          cases hb : bt M i with
          | true => rfl
          | false => exact absurd hb hz
        have := h2 t (fun c => hn ⟨by omega, c.2⟩)
        rw [pk_un e, pk_un e] at this
        exact this
theorem wx_end {post : SX → Prop} {M x2 x3 : Int32} (hT : T ≤ 8) (K : ∀ lo' so', (∀ t, t < T → bt M t = true → lo' t = x2 ∧ so' t = x3) → (∀ t, bt M t = false → lo' t = lo t ∧ so' t = so t) → post (nI T, nI L, al &&& (M ^^^ (-1)), dp, op, oA, oB, oC, inn, out, rg, lo', st, so', pas, mt, pl, pe, pm)) : wpX_endThreads post (nI T, nI L, al, dp, op, oA, oB, oC, inn, out, rg, lo, st, so, pas, mt, pl, pe, pm) M x2 x3 := by
  unfold wpX_endThreads
  dsimp only
  exact ⟨T + 1, wx_e3 hT T 0 lo so (by omega) (fun lo' so' h1 h2 => K lo' so' (fun t ht hb => h1 t ht (Nat.zero_le _) hb) (fun t hb => h2 t (fun c => by rw [hb] at c; exact absurd c.2 (by decide)))) _ (by omega)⟩
theorem wx_work {post : SX → Prop} {t l : Nat} (ht : t < 8) (hl : l < 32) (K : post (nI T, nI L, al, dp, op, oA, oB, oC, inn, wa_O op oA oB l (4 * t) rg out, wa_R op oA oB oC inn t l (4 * t) rg, lo, st, so, pas, mt, pl, pe, pm)) : wpX_work post (nI T, nI L, al, dp, op, oA, oB, oC, inn, out, rg, lo, st, so, pas, mt, pl, pe, pm) (nI t) (op l) (nI l) := by
  have hl1 : vp_in (nI l) 32 := vp_in_nI hl (by omega)
  have hc : (nI l).toNatClampNeg = l := wa_cl (by omega)
  have v3 : ∀ x, vp_in (nI (4 * t + wa_i3 x)) 32 := fun x => vp_in_nI (wa_ixl ht x) (by omega)
  have c3 : ∀ x, (nI (4 * t + wa_i3 x)).toNatClampNeg = 4 * t + wa_i3 x := fun x => wa_cl (Nat.lt_trans (wa_ixl ht x) (by omega))
  have v15 : ∀ x, vp_in (nI (wa_i15 x)) 16 := fun x => vp_in_nI (wa_i15l x) (by omega)
  have c15 : ∀ x, (nI (wa_i15 x)).toNatClampNeg = wa_i15 x := fun x => wa_cl (Nat.lt_trans (wa_i15l x) (by omega))
  unfold wpX_work
  dsimp only
  simp only [hc, wa_ix]
  refine And.intro hl1 (nm_e (And.intro hl1 (nm_e (And.intro (v3 _) (nm_e (And.intro hl1 (And.intro (v3 _) (nm_e ?_))))))))
  simp only [c3, wa_e15, c15]
  by_cases h0 : op l = 0
  · have eR : wa_R op oA oB oC inn t l (4 * t) rg = upd rg (4 * t + wa_i3 (oA l)) (oB l) := by
      unfold wa_R wa_val
      rw [if_neg (by rw [h0]; decide), if_pos h0]
    rw [eR, wa_Oid _ _ _ _ (by rw [h0]; decide)] at K
    exact br_t h0 (And.intro hl1 (And.intro (v3 _) (nm_e K)))
  · refine br_f h0 ?_
    by_cases h5 : 5 < op l
    · refine br_t h5 ?_
      by_cases h6 : op l = 6
      · have eR : wa_R op oA oB oC inn t l (4 * t) rg = upd rg (4 * t + wa_i3 (oA l)) (nI t) := by
          unfold wa_R wa_val
          rw [if_neg (by rw [h6]; decide), if_neg h0, if_pos h6]
        rw [eR, wa_Oid _ _ _ _ (by rw [h6]; decide)] at K
        exact br_t h6 (And.intro (v3 _) (nm_e K))
      · refine br_f h6 ?_
        by_cases h7 : op l = 7
        · have eR : wa_R op oA oB oC inn t l (4 * t) rg = upd rg (4 * t + wa_i3 (oA l)) (inn (wa_i15 (rg (4 * t + wa_i3 (oB l))))) := by
            unfold wa_R wa_val
            rw [if_neg (by rw [h7]; decide), if_neg h0, if_neg h6, if_pos h7]
          rw [eR, wa_Oid _ _ _ _ (by rw [h7]; decide)] at K
          exact br_t h7 (And.intro (v15 _) (And.intro (v3 _) (nm_e K)))
        · refine br_f h7 ?_
          rw [wa_Rid _ _ _ _ (wa_7 h5 h6 h7)] at K
          by_cases h8 : op l = 8
          · unfold wa_O at K
            rw [if_pos h8] at K
            exact br_t h8 (And.intro (v3 _) (And.intro (v15 _) (And.intro (v15 _) (nm_e K))))
          · rw [wa_Oid _ _ _ _ h8] at K
            exact br_f h8 K
    · refine br_f h5 (wx_calc (And.intro (v3 _) (nm_e ?_)))
      have ⟨g7, g6, g77, g8⟩ := wa_5 h5
      have eR : wa_R op oA oB oC inn t l (4 * t) rg = upd rg (4 * t + wa_i3 (oA l)) (wa_calc (op l) (rg (4 * t + wa_i3 (oB l))) (rg (4 * t + wa_i3 (oC l)))) := by
        unfold wa_R wa_val
        rw [if_neg g7, if_neg h0, if_neg g6, if_neg g77]
      rw [eR, wa_Oid _ _ _ _ g8] at K
      exact K
theorem wx_push {post : SX → Prop} {D : Nat} {p0 p1 p2 : Int32} (hD : D < 32) (K : post (nI T, nI L, al, nI (D + 1), op, oA, oB, oC, inn, out, rg, lo, st, so, pas, mt, upd pl D p0, upd pe D p1, upd pm D p2)) : wpX_pushPart post (nI T, nI L, al, nI D, op, oA, oB, oC, inn, out, rg, lo, st, so, pas, mt, pl, pe, pm) p0 p1 p2 := by
  unfold wpX_pushPart
  dsimp only
  rw [wa_cl (show D < 64 by omega), nI_1]
  have v : vp_in (nI D) 32 := vp_in_nI hD (by omega)
  exact And.intro v (nm_e (And.intro v (nm_e (And.intro v (nm_e (nm_e K))))))
theorem wx_branch {post : SX → Prop} {D tp l : Nat} {z q : Int32} (hl : l < 32) (htp : tp < 32)
    (K1 : q = 0 → post (nI T, nI L, al, nI D, op, oA, oB, oC, inn, out, rg, lo, st, so, pas, mt, upd pl tp (nI (wa_i31 (oB l))), pe, pm))
    (K2 : z = 0 → post (nI T, nI L, al, nI D, op, oA, oB, oC, inn, out, rg, lo, st, so, pas, mt, upd pl tp (nI (l + 1)), pe, pm))
    (hD : ¬ q = 0 → ¬ z = 0 → D + 1 < 32)
    (K3 : ¬ q = 0 → ¬ z = 0 → post (nI T, nI L, al, nI (D + 2), op, oA, oB, oC, inn, out, rg, lo, st, so, pas, mt, upd (upd (upd pl tp (mt l)) D (nI (l + 1))) (D + 1) (nI (wa_i31 (oB l))), upd (upd pe D (mt l)) (D + 1) (mt l), upd (upd pm D q) (D + 1) z)) : wpX_branch post (nI T, nI L, al, nI D, op, oA, oB, oC, inn, out, rg, lo, st, so, pas, mt, pl, pe, pm) (nI tp) (nI l) z q := by
  unfold wpX_branch
  dsimp only
  rw [wa_cl (show l < 64 by omega), wa_cl (show tp < 64 by omega), nI_1, wa_e31]
  have hl1 : vp_in (nI l) 32 := vp_in_nI hl (by omega)
  have hl3 : vp_in (nI l) 33 := vp_in_nI (by omega) (by omega)
  have ht1 : vp_in (nI tp) 32 := vp_in_nI htp (by omega)
  refine And.intro hl1 (nm_e (br_c (fun hq => And.intro ht1 (nm_e (K1 hq))) (fun hq => br_c (fun hz => And.intro ht1 (nm_e (K2 hz))) (fun hz => ?_))))
  have hD2 := hD hq hz
  exact And.intro hl3 (nm_e (And.intro ht1 (nm_e (wx_push (by omega) (wx_push hD2 (K3 hq hz))))))
/-- the loop of carryOut behind i threads: M the mask, l the line, rg0 the registers at its start, k steps and o accounts then -/
def wx_LI (T : Nat) (op oA oB oC inn : Nat → Int32) (M : Int32) (l : Nat) (rg0 : Nat → Int32) (k : Nat → Nat) (o : Nat → Nat → Int32) (i : Nat) (z : Int32) (out rg st : Nat → Int32) : Prop :=
  (∀ s, s < T → s < i → bt M s = true → st s = nI (k s + 1) ∧ wa_g rg s = wa_R op oA oB oC inn s l 0 (wa_g rg0 s)) ∧
  (∀ s, s < T → ¬ (s < i ∧ bt M s = true) → st s = nI (k s) ∧ wa_g rg s = wa_g rg0 s) ∧
  (∀ c, c < 16 → out c = wa_sm (fun s => (if s < i ∧ bt M s = true then wa_O op oA oB l 0 (wa_g rg0 s) (o s) else o s) c) T) ∧
  (∀ s, bt z s = (decide (s < i) && bt M s && decide (wa_g rg0 s (wa_i3 (oA l)) = 0)))
theorem wx_LI0 {M : Int32} {l : Nat} {k : Nat → Nat} {o : Nat → Nat → Int32} (hs : ∀ s, s < T → st s = nI (k s)) (ho : ∀ c, c < 16 → out c = wa_sm (fun s => o s c) T) : wx_LI T op oA oB oC inn M l rg k o 0 0 out rg st := by
  refine ⟨fun s _ h => absurd h (by omega), fun s hT _ => ⟨hs s hT, rfl⟩, fun c hc => ?_, fun s => ?_⟩
  · rw [ho c hc]
    exact wa_sm_e T (fun s _ => by rw [if_neg (fun h => absurd h.1 (by omega))])
  · rw [b_0, decide_eq_false (by omega)]; rfl
theorem wx_LIskip {M z : Int32} {l i : Nat} {rg0 : Nat → Int32} {k : Nat → Nat} {o : Nat → Nat → Int32} (hb : bt M i = false) (h : wx_LI T op oA oB oC inn M l rg0 k o i z out rg st) : wx_LI T op oA oB oC inn M l rg0 k o (i + 1) z out rg st := by
  have e : ∀ s, (s < i + 1 ∧ bt M s = true) ↔ (s < i ∧ bt M s = true) := by
    intro s
    constructor
    · intro ⟨h1, h2⟩
      have : s ≠ i := by intro e; rw [e, hb] at h2; exact absurd h2 (by decide)
      exact ⟨by omega, h2⟩
    · intro ⟨h1, h2⟩; exact ⟨by omega, h2⟩
  obtain ⟨a, b, c, d⟩ := h
  refine ⟨fun s hT h1 h2 => a s hT ((e s).mp ⟨h1, h2⟩).1 h2, fun s hT hn => b s hT (fun hh => hn ((e s).mpr hh)), fun c' hc => ?_, fun s => ?_⟩
  · rw [c c' hc]
    exact wa_sm_e T (fun s _ => by simp only [e s])
  · rw [d s]
    by_cases es : s = i
    · rw [es, hb, Bool.and_false, Bool.and_false]
    · have : decide (s < i + 1) = decide (s < i) := by
        rw [decide_eq_decide]; omega
      rw [this]
theorem wx_LIdo {M z : Int32} {l i : Nat} {rg0 : Nat → Int32} {k : Nat → Nat} {o : Nat → Nat → Int32} {w : Int32} (hi : i < T) (hb : bt M i = true) (hw : ∀ s, bt w s = (decide (s = i) && decide (wa_g rg0 i (wa_i3 (oA l)) = 0))) (h : wx_LI T op oA oB oC inn M l rg0 k o i z out rg st) : wx_LI T op oA oB oC inn M l rg0 k o (i + 1) (z ||| w) (wa_O op oA oB l (4 * i) rg out) (wa_R op oA oB oC inn i l (4 * i) rg) (upd st i (st i + 1)) := by
  obtain ⟨a, b, c, d⟩ := h
  have bi := b i hi (fun hh => absurd hh.1 (by omega))
  refine ⟨fun s hT h1 h2 => ?_, fun s hT hn => ?_, fun c' hc => ?_, fun s => ?_⟩
  · by_cases e : s = i
    · subst e
      rw [pk_us, wa_Rg, bi.1, bi.2, nI_1]
      exact ⟨rfl, rfl⟩
    · rw [pk_un e, wa_Rn _ _ _ _ e]
      exact a s hT (by omega) h2
  · have e : s ≠ i := by
      intro e
      apply hn
      rw [e]
      exact ⟨by omega, hb⟩
    rw [pk_un e, wa_Rn _ _ _ _ e]
    exact b s hT (fun hh => hn ⟨by omega, hh.2⟩)
  · obtain ⟨x, e1, e2⟩ := wa_Oadd (op := op) (oA := oA) (oB := oB) i l rg (o i) out c'
    rw [e1, c c' hc]
    refine (wa_sm_a (t := i) ?_ T hi (fun s hs hne => ?_)).symm
    · rw [if_pos ⟨by omega, hb⟩, if_neg (fun hh => absurd hh.1 (by omega)), ← bi.2, e2]
    · have e : (s < i + 1 ∧ bt M s = true) ↔ (s < i ∧ bt M s = true) := by
        constructor
        · intro ⟨h1, h2⟩; exact ⟨by omega, h2⟩
        · intro ⟨h1, h2⟩; exact ⟨by omega, h2⟩
      simp only [e]
  · rw [b_or, d s, hw s]
    by_cases e : s = i
    · subst e
      rw [hb, decide_eq_false (show ¬ s < s by omega), decide_eq_true (show s < s + 1 by omega), decide_eq_true (show s = s from rfl)]
      simp
    · have : decide (s < i + 1) = decide (s < i) := by
        rw [decide_eq_decide]; omega
      rw [this, decide_eq_false e, Bool.false_and, Bool.or_false]
theorem wx_c14 {post : SX → Prop} {x1 M : Int32} {l : Nat} {rg0 : Nat → Int32} {k : Nat → Nat} {o : Nat → Nat → Int32} (hT : T ≤ 8) (hl : l < 32) (K : ∀ n z out rg st, wx_LI T op oA oB oC inn M l rg0 k o T z out rg st → wX_carryOut_14 post x1 (nI l) M (op l) (n + 1) z (nI T) (nI T) (nI L) al dp op oA oB oC inn out rg lo st so pas mt pl pe pm) : ∀ d i z out rg st, i + d = T → wx_LI T op oA oB oC inn M l rg0 k o i z out rg st → ∀ n, d < n → wX_carryOut_14 post x1 (nI l) M (op l) n z (nI i) (nI T) (nI L) al dp op oA oB oC inn out rg lo st so pas mt pl pe pm := by
  intro d
  induction d with
  | zero =>
    intro i z out rg st hi h n hn
    obtain ⟨n, rfl⟩ := wa_s hn
    have e : i = T := by omega
    rw [e] at h ⊢
    exact K n z out rg st h
  | succ d ih =>
    intro i z out rg st hi h n hn
    obtain ⟨n, rfl⟩ := wa_s (Nat.lt_of_le_of_lt (Nat.zero_le _) hn)
    have v8 : vp_in (nI i) 8 := vp_in_nI (by omega) (by omega)
    refine br_f (nI_ge (by omega) (by omega)) (br_c (fun hz => nm_r (nI_1 i) (ih (i + 1) z out rg st (by omega) ?_ n (by omega))) (fun hz => ?_))
    · rw [wa_bit M (by omega)] at hz
      exact wx_LIskip hz h
    · rw [wa_bit M (by omega)] at hz
      have hb : bt M i = true := by
        cases hb : bt M i with
        | true => rfl
        | false => exact absurd hb hz
      have gi : wa_g rg0 i (wa_i3 (oA l)) = rg (4 * i + wa_i3 (oA l)) := by
        rw [← (h.2.1 i (by omega) (fun hh => absurd hh.1 (by omega))).2, wa_gat _ _ (wa_i3l _)]
      rw [wa_cl (show i < 64 by omega), wa_cl (show l < 64 by omega), wa_ix, wa_cl (Nat.lt_trans (wa_ixl (show i < 8 by omega) _) (by omega))]
      refine And.intro v8 (And.intro v8 (nm_e (And.intro (vp_in_nI hl (by omega)) (And.intro (vp_in_nI (wa_ixl (by omega) _) (by omega)) (br_c (fun h0 => ?_) (fun h0 => ?_))))))
      · unfold wX_carryOut_74
        refine nm_e (wx_work (by omega) hl (nm_r (nI_1 i) (ih (i + 1) _ _ _ _ (by omega) (wx_LIdo (by omega) hb ?_ h) n (by omega))))
        intro s
        rw [wa_bsh (by omega), decide_eq_true (gi.trans h0), Bool.and_true]
      · unfold wX_carryOut_74
        refine nm_e (wx_work (by omega) hl (nm_r (nI_1 i) (ih (i + 1) _ _ _ _ (by omega) (wx_LIdo (by omega) hb ?_ h) n (by omega))))
        intro s
        rw [b_0, decide_eq_false (fun hh => h0 (gi.symm.trans hh)), Bool.and_false]
theorem wx_c14x {post : SX → Prop} {M z : Int32} {l tp n D : Nat} (hT : T ≤ 8) (hl : l < 32) (htp : tp < 32)
    (K11 : op l = 11 → ∀ lo' so', (∀ t, t < T → bt M t = true → lo' t = nI l ∧ so' t = 1) → (∀ t, bt M t = false → lo' t = lo t ∧ so' t = so t) → post (nI T, nI L, al &&& (M ^^^ (-1)), nI D, op, oA, oB, oC, inn, out, rg, lo', st, so', pas, mt, pl, pe, pm))
    (K9 : op l = 9 → post (nI T, nI L, al, nI D, op, oA, oB, oC, inn, out, rg, lo, st, so, pas, mt, upd pl tp (nI (wa_i31 (oB l))), pe, pm))
    (K1 : op l = 10 → M &&& (z ^^^ (-1)) = 0 → post (nI T, nI L, al, nI D, op, oA, oB, oC, inn, out, rg, lo, st, so, pas, mt, upd pl tp (nI (wa_i31 (oB l))), pe, pm))
    (K2 : op l = 10 → z = 0 → post (nI T, nI L, al, nI D, op, oA, oB, oC, inn, out, rg, lo, st, so, pas, mt, upd pl tp (nI (l + 1)), pe, pm))
    (hD : op l = 10 → ¬ M &&& (z ^^^ (-1)) = 0 → ¬ z = 0 → D + 1 < 32)
    (K3 : op l = 10 → ¬ M &&& (z ^^^ (-1)) = 0 → ¬ z = 0 → post (nI T, nI L, al, nI (D + 2), op, oA, oB, oC, inn, out, rg, lo, st, so, pas, mt, upd (upd (upd pl tp (mt l)) D (nI (l + 1))) (D + 1) (nI (wa_i31 (oB l))), upd (upd pe D (mt l)) (D + 1) (mt l), upd (upd pm D (M &&& (z ^^^ (-1)))) (D + 1) z))
    (KE : ¬ op l = 11 → ¬ op l = 9 → ¬ op l = 10 → post (nI T, nI L, al, nI D, op, oA, oB, oC, inn, out, rg, lo, st, so, pas, mt, upd pl tp (nI (l + 1)), pe, pm)) : wX_carryOut_14 post (nI tp) (nI l) M (op l) (n + 1) z (nI T) (nI T) (nI L) al (nI D) op oA oB oC inn out rg lo st so pas mt pl pe pm := by
  refine br_t (nI_le (Nat.le_refl _) (by omega)) ?_
  rw [wa_cl (show l < 64 by omega), wa_cl (show tp < 64 by omega), wa_e31, nI_1]
  have ht1 : vp_in (nI tp) 32 := vp_in_nI htp (by omega)
  exact br_c (fun h => wx_end hT (K11 h)) (fun h11 => br_c (fun h => And.intro (vp_in_nI hl (by omega)) (And.intro ht1 (nm_e (K9 h)))) (fun h9 => br_c (fun h => wx_branch hl htp (K1 h) (K2 h) (hD h) (K3 h)) (fun h10 => And.intro ht1 (nm_e (KE h11 h9 h10)))))
end
end
section
/-! X: the invariant of the warp, and its steps as statements about ints and arrays -/
/-- thread t stands at line l under the parts below d: in the topmost part that holds it that part's line is l; a part ends at the line of the next part below that holds it -/
def wx_CH (pl pe pm : Nat → Int32) (t : Nat) : Nat → Int32 → Prop
  | 0, l => l = -1
  | d + 1, l => (bt (pm d) t = true → pl d = l ∧ wx_CH pl pe pm t d (pe d)) ∧ (bt (pm d) t = false → wx_CH pl pe pm t d l)
theorem wx_CHc {pl pe pm pl' pe' pm' : Nat → Int32} {t : Nat} : ∀ d l, (∀ i, i < d → pl' i = pl i ∧ pe' i = pe i ∧ pm' i = pm i) → wx_CH pl pe pm t d l → wx_CH pl' pe' pm' t d l := by
  intro d
  induction d with
  | zero => intro l _ h; exact h
  | succ d ih =>
    intro l hc h
    have e := hc d (by omega)
    have hc' : ∀ i, i < d → pl' i = pl i ∧ pe' i = pe i ∧ pm' i = pm i := fun i hi => hc i (by omega)
    refine And.intro (fun hb => ?_) (fun hb => ?_)
    · rw [e.2.2] at hb
      have := h.1 hb
      rw [e.1, e.2.1]
      exact ⟨this.1, ih _ hc' this.2⟩
    · rw [e.2.2] at hb
      exact ih _ hc' (h.2 hb)
section
variable (T L : Nat) (op oA oB oC inn : Nat → Int32)
def wx_TH (al : Int32) (out rg lo st so : Nat → Int32) (k cur : Nat → Nat) (o : Nat → Nat → Int32) : Prop :=
  (∀ t, t < T → st t = nI (k t) ∧ k t ≤ 48 ∧ cur t ≤ 32) ∧
  (∀ t, t < T → bt al t = true → wa_run L op oA oB oC inn t (48 - k t) (cur t) (wa_g rg t) (o t) = wa_fin L op oA oB oC inn t) ∧
  (∀ t, t < T → bt al t = false → ∃ s, wa_fin L op oA oB oC inn t = (cur t, k t, s, wa_g rg t, o t) ∧ lo t = nI (cur t) ∧ so t = nI s) ∧
  (∀ c, c < 16 → out c = wa_sm (fun t => o t c) T)
def wx_SK (al : Int32) (D : Nat) (pl pe pm : Nat → Int32) (cur : Nat → Nat) : Prop :=
  (∀ t, t < T → bt al t = true → wx_CH pl pe pm t D (nI (cur t))) ∧ (∀ i, i < D → i + 2 * wa_cn (bt (pm i)) T ≤ 16)
def wx_I (m : Nat) (al : Int32) (D : Nat) (out rg lo st so pl pe pm : Nat → Int32) : Prop :=
  ∃ (k cur : Nat → Nat) (o : Nat → Nat → Int32), wx_TH T L op oA oB oC inn al out rg lo st so k cur o ∧ wx_SK T al D pl pe pm cur ∧ 3 * wa_sn (fun t => 48 - k t) T + wa_cn (bt al) T + D ≤ m ∧ (∀ i, T ≤ i → bt al i = false)
/-- what a run has left, of the first i threads -/
def wa_Dn (i : Nat) (out rg lo st so : Nat → Int32) : Prop :=
  (∀ t, t < i → lo t = nI (wa_fin L op oA oB oC inn t).1 ∧ st t = nI (wa_fin L op oA oB oC inn t).2.1 ∧ so t = nI (wa_fin L op oA oB oC inn t).2.2.1 ∧ wa_g rg t = (wa_fin L op oA oB oC inn t).2.2.2.1) ∧
  (∀ c, c < 16 → out c = wa_sm (fun t => (wa_fin L op oA oB oC inn t).2.2.2.2 c) i)
end
section
variable {T L : Nat} {al dp : Int32} {op oA oB oC inn out rg lo st so : Nat → Int32} {pas : Nat → Int64} {mt pl pe pm : Nat → Int32}
theorem wx_I0 {m : Nat} (h : wx_I T L op oA oB oC inn m al 0 out rg lo st so pl pe pm) : wa_Dn L op oA oB oC inn T out rg lo st so := by
  obtain ⟨k, cur, o, ⟨h1, h2, h3, h4⟩, ⟨s1, _⟩, _, _⟩ := h
  have F : ∀ t, t < T → bt al t = false := by
    intro t ht
    cases hb : bt al t with
    | false => rfl
    | true =>
      have e : nI (cur t) = -1 := s1 t ht hb
      have e2 := congrArg Int32.toInt e
      rw [nI_toInt (by have := (h1 t ht).2.2; omega), show (-1 : Int32).toInt = -1 from by decide] at e2
      omega
  refine ⟨fun t ht => ?_, fun c hc => ?_⟩
  · obtain ⟨s, e, a, b⟩ := h3 t ht (F t ht)
    rw [e]
    exact ⟨a, (h1 t ht).1, b, rfl⟩
  · rw [h4 c hc]
    refine wa_sm_e T (fun t ht => ?_)
    obtain ⟨s, e, a, b⟩ := h3 t ht (F t ht)
    rw [e]
theorem wx_pop {m D : Nat} (h : wx_I T L op oA oB oC inn (m + 1) al (D + 1) out rg lo st so pl pe pm) (hp : pm D &&& al = 0 ∨ pl D = pe D) : wx_I T L op oA oB oC inn m al D out rg lo st so pl pe pm := by
  obtain ⟨k, cur, o, h1, ⟨s1, s2⟩, hm, hb⟩ := h
  refine ⟨k, cur, o, h1, ⟨fun t ht ha => ?_, fun i hi => s2 i (by omega)⟩, by omega, hb⟩
  have c := s1 t ht ha
  cases hq : bt (pm D) t with
  | false => exact c.2 hq
  | true =>
    have c1 := c.1 hq
    rcases hp with hp | hp
    · have := congrArg (fun x => bt x t) hp
      simp only [b_and, b_0, hq, ha] at this
      exact absurd this (by decide)
    · rw [← c1.1, hp]
      exact c1.2
theorem wx_endI {m D : Nat} {M line : Int32} {s : Nat} {k cur : Nat → Nat} {o : Nat → Nat → Int32} {lo' so' : Nat → Int32}
    (h1 : ∀ t, t < T → st t = nI (k t) ∧ k t ≤ 48 ∧ cur t ≤ 32)
    (h2 : ∀ t, t < T → bt al t = true → bt M t = false → wa_run L op oA oB oC inn t (48 - k t) (cur t) (wa_g rg t) (o t) = wa_fin L op oA oB oC inn t)
    (h3 : ∀ t, t < T → bt al t = false → ∃ s, wa_fin L op oA oB oC inn t = (cur t, k t, s, wa_g rg t, o t) ∧ lo t = nI (cur t) ∧ so t = nI s)
    (h4 : ∀ c, c < 16 → out c = wa_sm (fun t => o t c) T)
    (h5 : ∀ t, t < T → bt M t = true → bt al t = true ∧ wa_fin L op oA oB oC inn t = (cur t, k t, s, wa_g rg t, o t) ∧ nI (cur t) = line)
    (hS : wx_SK T al D pl pe pm cur) (hm : 3 * wa_sn (fun t => 48 - k t) T + wa_cn (bt al) T + D ≤ m + 1) (hb : ∀ i, T ≤ i → bt al i = false)
    (hne : ∃ t, t < T ∧ bt M t = true) (hl1 : ∀ t, t < T → bt M t = true → lo' t = line ∧ so' t = nI s) (hl2 : ∀ t, bt M t = false → lo' t = lo t ∧ so' t = so t) :
    wx_I T L op oA oB oC inn m (al &&& (M ^^^ (-1))) D out rg lo' st so' pl pe pm := by
  refine ⟨k, cur, o, ⟨h1, fun t ht ha => ?_, fun t ht ha => ?_, h4⟩, ⟨fun t ht ha => ?_, hS.2⟩, ?_, fun i hi => ?_⟩
  · rw [wa_bnot, Bool.and_eq_true] at ha
    exact h2 t ht ha.1 (by cases hM : bt M t with | false => rfl | true => rw [hM] at ha; exact absurd ha.2 (by decide))
  · cases hM : bt M t with
    | true =>
      have a := h5 t ht hM
      have b := hl1 t ht hM
      exact ⟨s, a.2.1, b.1.trans a.2.2.symm, b.2⟩
    | false =>
      rw [wa_bnot, hM] at ha
      have b := hl2 t hM
      rw [b.1, b.2]
      exact h3 t ht (by simpa using ha)
  · rw [wa_bnot, Bool.and_eq_true] at ha
    exact hS.1 t ht ha.1
  · obtain ⟨t, ht, hM⟩ := hne
    have : wa_cn (bt (al &&& (M ^^^ (-1)))) T + 1 ≤ wa_cn (bt al) T := by
      refine wa_cn_lt (t := t) ?_ (h5 t ht hM).1 T ht (fun s hs h => ?_)
      · rw [wa_bnot, hM, Bool.not_true, Bool.and_false]
      · rw [wa_bnot, Bool.and_eq_true] at h
        exact h.1
    omega
  · rw [wa_bnot, hb i hi, Bool.false_and]
/-- the threads of the mask have carried out line l -/
theorem wx_adv {M z : Int32} {l : Nat} {k cur : Nat → Nat} {o : Nat → Nat → Int32} {rg0 out' st' : Nat → Int32} (hL : L ≤ 32) (hl : l < L) (h11 : ¬ op l = 11)
    (h : wx_TH T L op oA oB oC inn al out rg0 lo st so k cur o) (hM : ∀ t, t < T → bt M t = true → bt al t = true ∧ cur t = l ∧ k t < 48)
    (hI : wx_LI T op oA oB oC inn M l rg0 k o T z out' rg st') :
    wx_TH T L op oA oB oC inn al out' rg lo st' so (fun t => if bt M t = true then k t + 1 else k t) (fun t => if bt M t = true then wa_N op oA oB l 0 (wa_g rg0 t) else cur t) (fun t => if bt M t = true then wa_O op oA oB l 0 (wa_g rg0 t) (o t) else o t) := by
  obtain ⟨h1, h2, h3, h4⟩ := h
  obtain ⟨a, b, c, d⟩ := hI
  refine ⟨fun t ht => ?_, fun t ht ha => ?_, fun t ht ha => ?_, fun c' hc => ?_⟩
  · dsimp only
    cases hb : bt M t with
    | true =>
      rw [if_pos rfl, if_pos rfl]
      exact ⟨(a t ht ht hb).1, (hM t ht hb).2.2, wa_Nle (by omega)⟩
    | false =>
      rw [if_neg (by decide), if_neg (by decide)]
      exact ⟨(b t ht (fun hh => by rw [hb] at hh; exact absurd hh.2 (by decide))).1, (h1 t ht).2⟩
  · dsimp only
    cases hb : bt M t with
    | true =>
      rw [if_pos rfl, if_pos rfl, if_pos rfl]
      have q := hM t ht hb
      have r := h2 t ht ha
      obtain ⟨f, ef⟩ : ∃ f, 48 - k t = f + 1 := ⟨48 - k t - 1, by omega⟩
      rw [ef, q.2.1, wa_run_s (by omega) h11] at r
      rw [(a t ht ht hb).2, show 48 - (k t + 1) = f by omega]
      exact r
    | false =>
      rw [if_neg (by decide), if_neg (by decide), if_neg (by decide), (b t ht (fun hh => by rw [hb] at hh; exact absurd hh.2 (by decide))).2]
      exact h2 t ht ha
  · dsimp only
    have hb : bt M t = false := by
      cases hb : bt M t with
      | true => rw [(hM t ht hb).1] at ha; exact absurd ha (by decide)
      | false => rfl
    rw [hb, if_neg (by decide), if_neg (by decide), if_neg (by decide), (b t ht (fun hh => by rw [hb] at hh; exact absurd hh.2 (by decide))).2]
    exact h3 t ht ha
  · rw [c c' hc]
    refine wa_sm_e T (fun s hs => ?_)
    by_cases hb : bt M s = true
    · rw [if_pos ⟨hs, hb⟩]
      dsimp only
      rw [if_pos hb]
    · rw [if_neg (fun hh => hb hh.2)]
      dsimp only
      rw [if_neg hb]
theorem wx_sn {M : Int32} {k : Nat → Nat} (hM : ∀ t, t < T → bt M t = true → k t < 48) (hne : ∃ t, t < T ∧ bt M t = true) : wa_sn (fun t => 48 - (if bt M t = true then k t + 1 else k t)) T + 1 ≤ wa_sn (fun t => 48 - k t) T := by
  obtain ⟨t, ht, hb⟩ := hne
  refine wa_sn_lt (t := t) ?_ T ht (fun s hs => ?_)
  · rw [if_pos hb]
    have := hM t ht hb
    omega
  · split <;> omega
theorem wx_SKu {M : Int32} {tp l' : Nat} {cur cur' : Nat → Nat} (hS : wx_SK T al (tp + 1) pl pe pm cur) (hM : M = pm tp &&& al)
    (c1 : ∀ t, t < T → bt M t = true → cur' t = l') (c2 : ∀ t, t < T → bt M t = false → cur' t = cur t) :
    wx_SK T al (tp + 1) (upd pl tp (nI l')) pe (upd pm tp M) cur' := by
  obtain ⟨s1, s2⟩ := hS
  have E : ∀ i, i < tp → upd pl tp (nI l') i = pl i ∧ pe i = pe i ∧ upd pm tp M i = pm i := fun i hi => ⟨pk_un (by omega), rfl, pk_un (by omega)⟩
  refine ⟨fun t ht ha => ?_, fun i hi => ?_⟩
  · have c := s1 t ht ha
    refine And.intro (fun hb => ?_) (fun hb => ?_)
    · rw [pk_us] at hb ⊢
      rw [c1 t ht hb]
      refine ⟨rfl, wx_CHc _ _ E (c.1 ?_).2⟩
      rw [hM, b_and, Bool.and_eq_true] at hb
      exact hb.1
    · rw [pk_us] at hb
      rw [c2 t ht hb]
      refine wx_CHc _ _ E (c.2 ?_)
      rw [hM, b_and, ha, Bool.and_true] at hb
      exact hb
  · by_cases e : i = tp
    · subst e
      rw [pk_us]
      have : wa_cn (bt M) T ≤ wa_cn (bt (pm i)) T := by
        refine wa_cn_le T (fun s _ h => ?_)
        rw [hM, b_and, Bool.and_eq_true] at h
        exact h.1
      have := s2 i hi
      omega
    · rw [pk_un e]
      exact s2 i hi
theorem wx_SKd {M z q ml : Int32} {tp lz lq : Nat} {cur cur' : Nat → Nat} (hS : wx_SK T al (tp + 1) pl pe pm cur) (hM : M = pm tp &&& al)
    (hz : ∀ t, t < T → bt z t = true → bt M t = true) (hq : ∀ t, bt q t = (bt M t && !bt z t))
    (nz : ∃ t, t < T ∧ bt z t = true) (nq : ∃ t, t < T ∧ bt q t = true)
    (c0 : ∀ t, t < T → bt M t = true → bt z t = true → cur' t = lz) (c1 : ∀ t, t < T → bt M t = true → bt z t = false → cur' t = lq) (c2 : ∀ t, t < T → bt M t = false → cur' t = cur t) :
    wx_SK T al (tp + 1 + 2) (upd (upd (upd pl tp ml) (tp + 1) (nI lq)) (tp + 1 + 1) (nI lz)) (upd (upd pe (tp + 1) ml) (tp + 1 + 1) ml) (upd (upd (upd pm tp M) (tp + 1) q) (tp + 1 + 1) z) cur' := by
  obtain ⟨s1, s2⟩ := hS
  have n1 : tp ≠ tp + 1 + 1 := by omega
  have n2 : tp ≠ tp + 1 := by omega
  have n3 : tp + 1 ≠ tp + 1 + 1 := by omega
  have E : ∀ i, i < tp → upd (upd (upd pl tp ml) (tp + 1) (nI lq)) (tp + 1 + 1) (nI lz) i = pl i ∧ upd (upd pe (tp + 1) ml) (tp + 1 + 1) ml i = pe i ∧ upd (upd (upd pm tp M) (tp + 1) q) (tp + 1 + 1) z i = pm i := by
    intro i hi
    refine ⟨?_, ?_, ?_⟩
    · rw [pk_un (by omega), pk_un (by omega), pk_un (by omega)]
    · rw [pk_un (by omega), pk_un (by omega)]
    · rw [pk_un (by omega), pk_un (by omega), pk_un (by omega)]
  refine ⟨fun t ht ha => ?_, fun i hi => ?_⟩
  · have c := s1 t ht ha
    have B : bt M t = true → wx_CH (upd (upd (upd pl tp ml) (tp + 1) (nI lq)) (tp + 1 + 1) (nI lz)) (upd (upd pe (tp + 1) ml) (tp + 1 + 1) ml) (upd (upd (upd pm tp M) (tp + 1) q) (tp + 1 + 1) z) t (tp + 1) ml := by
      intro hb
      refine And.intro (fun _ => ?_) (fun h => ?_)
      · rw [pk_un n1, pk_un n2, pk_us, pk_un n1, pk_un n2]
        refine ⟨rfl, wx_CHc _ _ E (c.1 ?_).2⟩
        rw [hM, b_and, Bool.and_eq_true] at hb
        exact hb.1
      · rw [pk_un n1, pk_un n2, pk_us, hb] at h
        exact absurd h (by decide)
    refine And.intro (fun h => ?_) (fun h => And.intro (fun h2 => ?_) (fun h2 => And.intro (fun h3 => ?_) (fun h3 => ?_)))
    · rw [pk_us] at h ⊢
      have hb := hz t ht h
      rw [c0 t ht hb h, pk_us]
      refine ⟨rfl, And.intro (fun h2 => ?_) (fun _ => B hb)⟩
      rw [pk_un n3, pk_us, hq, h, Bool.not_true, Bool.and_false] at h2
      exact absurd h2 (by decide)
    · rw [pk_us] at h
      rw [pk_un n3, pk_us] at h2 ⊢
      rw [hq, Bool.and_eq_true] at h2
      rw [c1 t ht h2.1 h, pk_un n3, pk_us]
      exact ⟨rfl, B h2.1⟩
    · rw [pk_us] at h
      rw [pk_un n3, pk_us, hq, h] at h2
      rw [pk_un n1, pk_un n2, pk_us] at h3
      rw [h3] at h2
      exact absurd h2 (by decide)
    · rw [pk_un n1, pk_un n2, pk_us] at h3
      rw [c2 t ht h3]
      refine wx_CHc _ _ E (c.2 ?_)
      rw [hM, b_and, ha, Bool.and_true] at h3
      exact h3
  · have e0 : wa_cn (bt M) T ≤ wa_cn (bt (pm tp)) T := by
      refine wa_cn_le T (fun s _ h => ?_)
      rw [hM, b_and, Bool.and_eq_true] at h
      exact h.1
    have e1 : wa_cn (bt z) T + 1 ≤ wa_cn (bt M) T := by
      obtain ⟨t, ht, hb⟩ := nq
      rw [hq, Bool.and_eq_true] at hb
      refine wa_cn_lt (t := t) (by simpa using hb.2) hb.1 T ht hz
    have e2 : wa_cn (bt q) T + 1 ≤ wa_cn (bt M) T := by
      obtain ⟨t, ht, hb⟩ := nz
      refine wa_cn_lt (t := t) ?_ (hz t ht hb) T ht (fun s _ h => ?_)
      · rw [hq, hb, Bool.not_true, Bool.and_false]
      · rw [hq, Bool.and_eq_true] at h
        exact h.1
    have e3 := s2 tp (by omega)
    by_cases a1 : i = tp + 1 + 1
    · rw [a1, pk_us]; omega
    · by_cases a2 : i = tp + 1
      · rw [a2, pk_un n3, pk_us]; omega
      · by_cases a3 : i = tp
        · rw [a3, pk_un n1, pk_un n2, pk_us]; omega
        · rw [pk_un a1, pk_un a2, pk_un a3]
          exact s2 i (by omega)
end
end
section
/-! X: stepWarp and run -/
theorem wa_or0 (x : Int32) : x ||| 0 = x := b_ext (fun i _ => by rw [b_or, b_0, Bool.or_false])
theorem wa_bt {b : Bool} (h : ¬ b = false) : b = true := by cases b with | true => rfl | false => exact absurd rfl h
section
variable {T L : Nat} {al dp : Int32} {op oA oB oC inn out rg lo st so : Nat → Int32} {pas : Nat → Int64} {mt pl pe pm : Nat → Int32}
theorem wx_SKm {M : Int32} {tp : Nat} {cur : Nat → Nat} (hS : wx_SK T al (tp + 1) pl pe pm cur) (hM : M = pm tp &&& al) : wx_SK T al (tp + 1) pl pe (upd pm tp M) cur := by
  obtain ⟨s1, s2⟩ := hS
  have E : ∀ i, i < tp → pl i = pl i ∧ pe i = pe i ∧ upd pm tp M i = pm i := fun i hi => ⟨rfl, rfl, pk_un (by omega)⟩
  refine ⟨fun t ht ha => ?_, fun i hi => ?_⟩
  · have c := s1 t ht ha
    refine And.intro (fun hb => ?_) (fun hb => ?_)
    · rw [pk_us, hM, b_and, Bool.and_eq_true] at hb
      exact ⟨(c.1 hb.1).1, wx_CHc _ _ E (c.1 hb.1).2⟩
    · rw [pk_us, hM, b_and, ha, Bool.and_true] at hb
      exact wx_CHc _ _ E (c.2 hb)
  · by_cases e : i = tp
    · subst e
      rw [pk_us]
      have : wa_cn (bt M) T ≤ wa_cn (bt (pm i)) T := by
        refine wa_cn_le T (fun s _ h => ?_)
        rw [hM, b_and, Bool.and_eq_true] at h
        exact h.1
      have := s2 i hi
      omega
    · rw [pk_un e]
      exact s2 i hi
theorem wx_uni {M z : Int32} {m D l l' : Nat} {k cur : Nat → Nat} {o : Nat → Nat → Int32} {rg0 out' st' : Nat → Int32} (hL : L ≤ 32) (hl : l < L) (h11 : ¬ op l = 11)
    (h : wx_TH T L op oA oB oC inn al out rg0 lo st so k cur o) (hS : wx_SK T al (D + 1) pl pe pm cur) (hm : 3 * wa_sn (fun t => 48 - k t) T + wa_cn (bt al) T + (D + 1) ≤ m + 1) (hb : ∀ i, T ≤ i → bt al i = false)
    (eM : M = pm D &&& al) (hM : ∀ t, t < T → bt M t = true → bt al t = true ∧ cur t = l ∧ k t < 48) (hne : ∃ t, t < T ∧ bt M t = true)
    (hI : wx_LI T op oA oB oC inn M l rg0 k o T z out' rg st')
    (hN : ∀ t, t < T → bt M t = true → wa_N op oA oB l 0 (wa_g rg0 t) = l') :
    wx_I T L op oA oB oC inn m al (D + 1) out' rg lo st' so (upd pl D (nI l')) pe (upd pm D M) := by
  refine ⟨_, _, _, wx_adv hL hl h11 h hM hI, wx_SKu hS eM (fun t ht hb => ?_) (fun t ht hb => ?_), ?_, hb⟩
  · rw [if_pos hb]
    exact hN t ht hb
  · rw [if_neg (by rw [hb]; decide)]
  · have := wx_sn (fun t ht hb => (hM t ht hb).2.2) hne
    omega
theorem wx_div {M z : Int32} {m D l : Nat} {ml : Int32} {k cur : Nat → Nat} {o : Nat → Nat → Int32} {rg0 out' st' : Nat → Int32} (hL : L ≤ 32) (hl : l < L) (h10 : op l = 10)
    (h : wx_TH T L op oA oB oC inn al out rg0 lo st so k cur o) (hS : wx_SK T al (D + 1) pl pe pm cur) (hm : 3 * wa_sn (fun t => 48 - k t) T + wa_cn (bt al) T + (D + 1) ≤ m + 1) (hb : ∀ i, T ≤ i → bt al i = false)
    (eM : M = pm D &&& al) (hM : ∀ t, t < T → bt M t = true → bt al t = true ∧ cur t = l ∧ k t < 48) (hne : ∃ t, t < T ∧ bt M t = true)
    (hI : wx_LI T op oA oB oC inn M l rg0 k o T z out' rg st')
    (nq : ¬ M &&& (z ^^^ (-1)) = 0) (nz : ¬ z = 0) :
    wx_I T L op oA oB oC inn m al (D + 1 + 2) out' rg lo st' so (upd (upd (upd pl D ml) (D + 1) (nI (l + 1))) (D + 1 + 1) (nI (wa_i31 (oB l)))) (upd (upd pe (D + 1) ml) (D + 1 + 1) ml) (upd (upd (upd pm D M) (D + 1) (M &&& (z ^^^ (-1)))) (D + 1 + 1) z) := by
  have hz := hI.2.2.2
  have g10 : ¬ op l = 9 := by rw [h10]; decide
  have hbM : ∀ i, T ≤ i → bt M i = false := fun i hi => by rw [eM, b_and, hb i hi, Bool.and_false]
  have hzM : ∀ t, bt z t = true → bt M t = true ∧ wa_g rg0 t (wa_i3 (oA l)) = 0 := by
    intro t hb
    rw [hz t, Bool.and_eq_true, Bool.and_eq_true, decide_eq_true_eq, decide_eq_true_eq] at hb
    exact ⟨hb.1.2, hb.2⟩
  refine ⟨_, _, _, wx_adv hL hl (by rw [h10]; decide) h hM hI, wx_SKd hS eM (fun t ht hb => (hzM t hb).1) (fun t => wa_bnot _ _ _) ?_ ?_ (fun t ht hb hc => ?_) (fun t ht hb hc => ?_) (fun t ht hb => ?_), ?_, hb⟩
  · refine wa_ne (fun i hi => ?_) nz
    rw [hz i, hbM i hi, Bool.and_false, Bool.false_and]
  · refine wa_ne (fun i hi => ?_) nq
    rw [wa_bnot, hbM i hi, Bool.false_and]
  · rw [if_pos hb]
    unfold wa_N
    rw [if_neg g10, if_pos h10, Nat.zero_add, if_pos (hzM t hc).2]
  · rw [if_pos hb]
    have : ¬ wa_g rg0 t (wa_i3 (oA l)) = 0 := by
      intro e
      rw [hz t, hb, decide_eq_true ht, decide_eq_true e] at hc
      exact absurd hc (by decide)
    unfold wa_N
    rw [if_neg g10, if_pos h10, Nat.zero_add, if_neg this]
  · rw [if_neg (by rw [hb]; decide)]
  · have := wx_sn (fun t ht hb => (hM t ht hb).2.2) hne
    omega
theorem wx_fin11 {M z : Int32} {m D l : Nat} {k cur : Nat → Nat} {o : Nat → Nat → Int32} {rg0 out' st' lo' so' : Nat → Int32} (hl : l < L) (h11 : op l = 11)
    (h : wx_TH T L op oA oB oC inn al out rg0 lo st so k cur o) (hS : wx_SK T al (D + 1) pl pe pm cur) (hm : 3 * wa_sn (fun t => 48 - k t) T + wa_cn (bt al) T + (D + 1) ≤ m + 1) (hb : ∀ i, T ≤ i → bt al i = false)
    (eM : M = pm D &&& al) (hM : ∀ t, t < T → bt M t = true → bt al t = true ∧ cur t = l ∧ k t < 48) (hne : ∃ t, t < T ∧ bt M t = true)
    (hI : wx_LI T op oA oB oC inn M l rg0 k o T z out' rg st')
    (e1 : ∀ t, t < T → bt M t = true → lo' t = nI l ∧ so' t = 1) (e2 : ∀ t, bt M t = false → lo' t = lo t ∧ so' t = so t) :
    wx_I T L op oA oB oC inn m (al &&& (M ^^^ (-1))) (D + 1) out' rg lo' st' so' pl pe (upd pm D M) := by
  obtain ⟨a, b, c, d⟩ := hI
  obtain ⟨h1, h2, h3, h4⟩ := h
  have hq : ∀ t, bt M t = false → ¬ (t < T ∧ bt M t = true) := fun t hb hh => by rw [hb] at hh; exact absurd hh.2 (by decide)
  refine wx_endI (s := 1) (k := fun t => if bt M t = true then k t + 1 else k t) (cur := cur) (o := o) (line := nI l) (fun t ht => ?_) (fun t ht ha hb => ?_) (fun t ht ha => ?_) (fun c' hc => ?_) (fun t ht hb => ?_) (wx_SKm hS eM) ?_ hb hne e1 e2
  · cases hb : bt M t with
    | true =>
      rw [if_pos rfl]
      exact ⟨(a t ht ht hb).1, (hM t ht hb).2.2, (h1 t ht).2.2⟩
    | false =>
      rw [if_neg (by decide)]
      exact ⟨(b t ht (hq t hb)).1, (h1 t ht).2⟩
  · rw [if_neg (by rw [hb]; decide), (b t ht (hq t hb)).2]
    exact h2 t ht ha
  · have hb : bt M t = false := by
      cases hb : bt M t with
      | true => rw [(hM t ht hb).1] at ha; exact absurd ha (by decide)
      | false => rfl
    rw [if_neg (by rw [hb]; decide), (b t ht (hq t hb)).2]
    exact h3 t ht ha
  · rw [c c' hc]
    refine wa_sm_e T (fun s hs => ?_)
    split
    · rw [wa_Oid _ _ _ _ (by rw [h11]; decide)]
    · rfl
  · have q := hM t ht hb
    have r := h2 t ht q.1
    obtain ⟨f, ef⟩ : ∃ f, 48 - k t = f + 1 := ⟨48 - k t - 1, by omega⟩
    rw [ef, q.2.1, wa_run_11 (by omega) h11] at r
    refine ⟨q.1, ?_, by rw [q.2.1]⟩
    rw [if_pos hb, (a t ht ht hb).2, wa_Rid _ _ _ _ (by rw [h11]; decide), q.2.1, ← r, show 48 - f = k t + 1 by omega]
  · have := wx_sn (fun t ht hb => (hM t ht hb).2.2) hne
    omega
theorem wx_carry {post : SX → Prop} {m D l : Nat} {k cur : Nat → Nat} {o : Nat → Nat → Int32} (hT : T ≤ 8) (hL : L ≤ 32) (hl : l < L) (hD : D < 20)
    (h : wx_TH T L op oA oB oC inn al out rg lo st so k cur o) (hS : wx_SK T al (D + 1) pl pe pm cur) (hm : 3 * wa_sn (fun t => 48 - k t) T + wa_cn (bt al) T + (D + 1) ≤ m + 1) (hb : ∀ i, T ≤ i → bt al i = false)
    (hM : ∀ t, t < T → bt (pm D &&& al) t = true → bt al t = true ∧ cur t = l ∧ k t < 48) (hne : ∃ t, t < T ∧ bt (pm D &&& al) t = true)
    (K : ∀ al D out rg lo st so pl pe pm, wx_I T L op oA oB oC inn m al D out rg lo st so pl pe pm → post (nI T, nI L, al, nI D, op, oA, oB, oC, inn, out, rg, lo, st, so, pas, mt, pl, pe, pm)) :
    wpX_carryOut post (nI T, nI L, al, nI (D + 1), op, oA, oB, oC, inn, out, rg, lo, st, so, pas, mt, pl, pe, upd pm D (pm D &&& al)) (nI D) (nI l) (pm D &&& al) := by
  unfold wpX_carryOut
  dsimp only
  rw [wa_cl (show l < 64 by omega)]
  refine And.intro (vp_in_nI (by omega) (by omega)) (nm_e ⟨T + 1, wx_c14 hT (by omega) (fun n z out' rg' st' hI => ?_) T 0 0 out rg st (by omega) (wx_LI0 (fun s hs => (h.1 s hs).1) h.2.2.2) _ (by omega)⟩)
  have hz := hI.2.2.2
  refine wx_c14x hT (by omega) (by omega) (fun h11 lo' so' e1 e2 => ?_) (fun h9 => ?_) (fun h10 hq => ?_) (fun h10 hq => ?_) (fun _ _ _ => by omega) (fun h10 nq nz => ?_) (fun n11 n9 n10 => ?_)
  · exact K _ _ _ _ _ _ _ _ _ _ (wx_fin11 hl h11 h hS hm hb rfl hM hne hI e1 e2)
  · refine K _ _ _ _ _ _ _ _ _ _ (wx_uni hL hl (by rw [h9]; decide) h hS hm hb rfl hM hne hI (fun t ht hb => ?_))
    unfold wa_N
    rw [if_pos h9]
  · refine K _ _ _ _ _ _ _ _ _ _ (wx_uni hL hl (by rw [h10]; decide) h hS hm hb rfl hM hne hI (fun t ht hb => ?_))
    have e := congrArg (fun x => bt x t) hq
    simp only [wa_bnot, b_0, hb, Bool.true_and] at e
    have e' : bt z t = true := by
      cases hc : bt z t with
      | true => rfl
      | false => rw [hc] at e; exact absurd e (by decide)
    rw [hz t, Bool.and_eq_true, decide_eq_true_eq] at e'
    unfold wa_N
    rw [if_neg (by rw [h10]; decide), if_pos h10, Nat.zero_add, if_pos e'.2]
  · refine K _ _ _ _ _ _ _ _ _ _ (wx_uni hL hl (by rw [h10]; decide) h hS hm hb rfl hM hne hI (fun t ht hb => ?_))
    have : ¬ wa_g rg t (wa_i3 (oA l)) = 0 := by
      intro e
      have e2 := hz t
      rw [hq, b_0, hb, decide_eq_true ht, decide_eq_true e] at e2
      exact absurd e2 (by decide)
    unfold wa_N
    rw [if_neg (by rw [h10]; decide), if_pos h10, Nat.zero_add, if_neg this]
  · exact K _ _ _ _ _ _ _ _ _ _ (wx_div hL hl h10 h hS hm hb rfl hM hne hI nq nz)
  · refine K _ _ _ _ _ _ _ _ _ _ (wx_uni hL hl n11 h hS hm hb rfl hM hne hI (fun t ht hb => ?_))
    unfold wa_N
    rw [if_neg n9, if_neg n10]
theorem wx_73 {post : SX → Prop} {x1 x3 M : Int32} (hT : T ≤ 8) (K : ∀ n x4, (∀ s, bt x4 s = (decide (s < T) && bt M s && decide (¬ st s < 48))) → wX_stepWarp_73 post x1 M x3 (nI T) (nI L) al dp op oA oB oC inn out rg lo st so pas mt pl pe pm (n + 1) x4 (nI T)) : ∀ d i x4, i + d = T → (∀ s, bt x4 s = (decide (s < i) && bt M s && decide (¬ st s < 48))) → ∀ n, d < n → wX_stepWarp_73 post x1 M x3 (nI T) (nI L) al dp op oA oB oC inn out rg lo st so pas mt pl pe pm n x4 (nI i) := by
  intro d
  induction d with
  | zero =>
    intro i x4 hi h n hn
    obtain ⟨n, rfl⟩ := wa_s hn
    have e : i = T := by omega
    rw [e] at h ⊢
    exact K n x4 h
  | succ d ih =>
    intro i x4 hi h n hn
    obtain ⟨n, rfl⟩ := wa_s (Nat.lt_of_le_of_lt (Nat.zero_le _) hn)
    have dn : ∀ s, s ≠ i → decide (s < i + 1) = decide (s < i) := fun s hs => by rw [decide_eq_decide]; omega
    refine br_f (nI_ge (by omega) (by omega)) (br_c (fun hz => nm_r (wa_or0 x4) (nm_r (nI_1 i) (ih (i + 1) x4 (by omega) ?_ n (by omega)))) (fun hz => And.intro (vp_in_nI (by omega) (by omega)) (br_c (fun hs => nm_r (wa_or0 x4) (nm_r (nI_1 i) (ih (i + 1) x4 (by omega) ?_ n (by omega)))) (fun hs => nm_e (nm_r (nI_1 i) (ih (i + 1) _ (by omega) ?_ n (by omega)))))))
    · rw [wa_bit M (by omega)] at hz
      intro s
      rw [h s]
      by_cases e : s = i
      · rw [e, hz, Bool.and_false, Bool.and_false]
      · rw [dn s e]
    · rw [wa_cl (by omega)] at hs
      intro s
      rw [h s]
      by_cases e : s = i
      · rw [e, decide_eq_false (show ¬ ¬ st i < 48 from fun hh => hh hs), Bool.and_false, Bool.and_false]
      · rw [dn s e]
    · rw [wa_bit M (by omega)] at hz
      rw [wa_cl (by omega)] at hs
      intro s
      rw [b_or, wa_bsh (by omega), h s]
      by_cases e : s = i
      · rw [e, wa_bt hz, decide_eq_true hs, decide_eq_true (show i < i + 1 by omega), decide_eq_true (show i = i from rfl), Bool.or_true]
        rfl
      · rw [dn s e, decide_eq_false e, Bool.or_false]
theorem wx_step {post : SX → Prop} {m D : Nat} (hT : T ≤ 8) (hL : L ≤ 32) (h : wx_I T L op oA oB oC inn (m + 1) al (D + 1) out rg lo st so pl pe pm)
    (K : ∀ al D out rg lo st so pl pe pm, wx_I T L op oA oB oC inn m al D out rg lo st so pl pe pm → post (nI T, nI L, al, nI D, op, oA, oB, oC, inn, out, rg, lo, st, so, pas, mt, pl, pe, pm)) : wpX_stepWarp post (nI T, nI L, al, nI (D + 1), op, oA, oB, oC, inn, out, rg, lo, st, so, pas, mt, pl, pe, pm) := by
  have h' := h
  obtain ⟨k, cur, o, hTH, hS, hm, hb⟩ := h
  have hD := hS.2 D (by omega)
  have vD : vp_in (nI D) 32 := vp_in_nI (by omega) (by omega)
  unfold wpX_stepWarp
  dsimp only
  rw [nI_pred]
  refine nm_e ?_
  rw [wa_cl (show D < 64 by omega)]
  refine And.intro vD (nm_e (And.intro vD (nm_e (br_c (fun hz => nm_e (K _ _ _ _ _ _ _ _ _ _ (wx_pop h' (Or.inl hz)))) (fun hz => And.intro vD (br_c (fun he => nm_e (K _ _ _ _ _ _ _ _ _ _ (wx_pop h' (Or.inr he)))) (fun he => ?_)))))))
  obtain ⟨t0, ht0, hb0⟩ := wa_ne (x := pm D &&& al) (T := T) (fun i hi => by rw [b_and, hb i hi, Bool.and_false]) hz
  have hc0 : cur t0 ≤ 32 := (hTH.1 t0 ht0).2.2
  have hA : ∀ t, t < T → bt (pm D &&& al) t = true → bt al t = true ∧ pl D = nI (cur t) := by
    intro t ht hq
    rw [b_and, Bool.and_eq_true] at hq
    exact ⟨hq.2, ((hS.1 t ht hq.2).1 hq.1).1⟩
  have hpl := (hA t0 ht0 hb0).2
  have hM : ∀ t, t < T → bt (pm D &&& al) t = true → bt al t = true ∧ cur t = cur t0 := by
    intro t ht hq
    have e := (hA t ht hq).2
    rw [hpl] at e
    have := (hTH.1 t ht).2.2
    exact ⟨(hA t ht hq).1, ((nI_eq (by omega) (by omega)).mp e).symm⟩
  generalize hl : cur t0 = l at *
  rw [hpl]
  refine pk_lt l L (fun hlt => ?_) (fun hge => ?_)
  · refine ⟨T + 1, wx_73 hT (fun n x4 hx => ?_) T 0 0 (by omega) (fun s => by rw [b_0, decide_eq_false (by omega), Bool.false_and, Bool.false_and]) _ (by omega)⟩
    have hxM : ∀ t, bt x4 t = true → bt (pm D &&& al) t = true ∧ ¬ st t < 48 := by
      intro t hq
      rw [hx t, Bool.and_eq_true, Bool.and_eq_true, decide_eq_true_eq, decide_eq_true_eq] at hq
      exact ⟨hq.1.2, hq.2⟩
    refine br_t (nI_le (Nat.le_refl _) (by omega)) (br_c (fun h0 => And.intro vD ?_) (fun h0 => wx_end hT (fun lo' so' e1 e2 => K _ _ _ _ _ _ _ _ _ _ ?_)))
    · rw [wa_cl (show D < 64 by omega)]
      refine nm_e (wx_carry hT hL hlt (by omega) hTH hS hm hb (fun t ht hq => ⟨(hM t ht hq).1, (hM t ht hq).2, ?_⟩) ⟨t0, ht0, hb0⟩ K)
      have e := hx t
      rw [h0, b_0, hq, decide_eq_true ht, Bool.true_and, Bool.true_and] at e
      have e2 : st t < 48 := Classical.byContradiction (fun hn => by rw [decide_eq_true hn] at e; exact absurd e (by decide))
      have := hTH.1 t ht
      rw [this.1] at e2
      exact (nI_ltI (b := 48) (by omega) (by omega)).mp e2
    · refine wx_endI (s := 2) (M := x4) (line := nI l) hTH.1 (fun t ht ha _ => hTH.2.1 t ht ha) hTH.2.2.1 hTH.2.2.2 (fun t ht hq => ?_) hS hm hb ?_ e1 e2
      · have q := hxM t hq
        have p := hM t ht q.1
        have r := hTH.2.1 t ht p.1
        have s := hTH.1 t ht
        have e48 : k t = 48 := by
          have q2 := q.2
          rw [s.1] at q2
          have : ¬ k t < 48 := fun hh => q2 (nI_lt (b := 48) hh (by omega))
          omega
        refine ⟨p.1, ?_, by rw [p.2]⟩
        rw [e48, p.2, Nat.sub_self, wa_run_tired (by omega)] at r
        rw [e48, p.2]
        exact r.symm
      · refine wa_ne (fun i hi => ?_) h0
        rw [hx i, decide_eq_false (by omega), Bool.false_and, Bool.false_and]
  · refine wx_end hT (fun lo' so' e1 e2 => K _ _ _ _ _ _ _ _ _ _ ?_)
    refine wx_endI (s := 1) (M := pm D &&& al) (line := nI l) hTH.1 (fun t ht ha _ => hTH.2.1 t ht ha) hTH.2.2.1 hTH.2.2.2 (fun t ht hq => ?_) hS hm hb ⟨t0, ht0, hb0⟩ e1 e2
    have p := hM t ht hq
    have r := hTH.2.1 t ht p.1
    have s := hTH.1 t ht
    refine ⟨p.1, ?_, by rw [p.2]⟩
    rw [p.2, wa_run_end hge (by omega)] at r
    rw [p.2, ← r, show 48 - (48 - k t) = k t by omega]
theorem wx_67 {post : Int32 → SX → Prop} (hT : T ≤ 8) (K : post (wa_ct so T) (nI T, nI L, al, dp, op, oA, oB, oC, inn, out, rg, lo, st, so, pas, mt, pl, pe, pm)) : ∀ d i, i + d = T → ∀ n, d < n → wX_run_67 post (nI T) (nI L) al dp op oA oB oC inn out rg lo st so pas mt pl pe pm n (wa_ct so i) (nI i) := by
  intro d
  induction d with
  | zero =>
    intro i hi n hn
    obtain ⟨n, rfl⟩ := wa_s hn
    have e : i = T := by omega
    rw [e]
    exact br_t (nI_le (Nat.le_refl _) (by omega)) K
  | succ d ih =>
    intro i hi n hn
    obtain ⟨n, rfl⟩ := wa_s (Nat.lt_of_le_of_lt (Nat.zero_le _) hn)
    refine br_f (nI_ge (by omega) (by omega)) (And.intro (vp_in_nI (by omega) (by omega)) (br_c (fun hs => nm_r (e' := wa_ct so (i + 1)) ?_ (nm_r (nI_1 i) (ih (i + 1) (by omega) n (by omega)))) (fun hs => nm_r (e' := wa_ct so (i + 1)) ?_ (nm_r (nI_1 i) (ih (i + 1) (by omega) n (by omega))))))
    · rw [wa_cl (by omega)] at hs
      exact (if_pos hs).symm
    · rw [wa_cl (by omega)] at hs
      rw [Int32.add_zero]
      exact (if_neg hs).symm
theorem wx_39 {post : Int32 → SX → Prop} (hT : T ≤ 8) (hL : L ≤ 32) (K : ∀ al dp out rg lo st so pl pe pm, wa_Dn L op oA oB oC inn T out rg lo st so → post (wa_ct so T) (nI T, nI L, al, dp, op, oA, oB, oC, inn, out, rg, lo, st, so, pas, mt, pl, pe, pm)) :
    ∀ m i al D out rg lo st so pl pe pm, i + m ≤ 1999 → wx_I T L op oA oB oC inn m al D out rg lo st so pl pe pm → ∀ n, m < n → wX_run_39 post n (nI i) (nI T) (nI L) al (nI D) op oA oB oC inn out rg lo st so pas mt pl pe pm := by
  intro m
  have E : ∀ m i al out rg lo st so pl pe pm n, i ≤ 1999 → wx_I T L op oA oB oC inn m al 0 out rg lo st so pl pe pm → wX_run_39 post (n + 1) (nI i) (nI T) (nI L) al (nI 0) op oA oB oC inn out rg lo st so pas mt pl pe pm := by
    intro m i al out rg lo st so pl pe pm n hi h
    exact br_f (nI_ge (b := 2000) (by omega) (by omega)) (br_t (by decide) ⟨T + 1, wx_67 hT (K _ _ _ _ _ _ _ _ _ _ (wx_I0 h)) T 0 (by omega) _ (by omega)⟩)
  induction m with
  | zero =>
    intro i al D out rg lo st so pl pe pm hi h n hn
    obtain ⟨n, rfl⟩ := wa_s hn
    have h' := h
    obtain ⟨k, cur, o, _, _, hm, _⟩ := h
    have e : D = 0 := by omega
    subst e
    exact E 0 i al out rg lo st so pl pe pm n (by omega) h'
  | succ m ih =>
    intro i al D out rg lo st so pl pe pm hi h n hn
    obtain ⟨n, rfl⟩ := wa_s (Nat.lt_of_le_of_lt (Nat.zero_le _) hn)
    cases D with
    | zero => exact E (m + 1) i al out rg lo st so pl pe pm n (by omega) h
    | succ D =>
      have hD : D < 2000 := by
        obtain ⟨k, cur, o, _, _, hm, _⟩ := h
        omega
      exact br_f (nI_ge (b := 2000) (by omega) (by omega)) (br_f (nI_nle (by omega) (by omega)) (wx_step hT hL h (fun al D out rg lo st so pl pe pm h2 => nm_r (nI_1 i) (ih (i + 1) al D out rg lo st so pl pe pm (by omega) h2 n (by omega)))))
theorem wx_init (hT : T ≤ 8) (h1 : ∀ j, j < 16 → out j = 0) (h2 : ∀ j, j < 32 → rg j = 0) (h3 : ∀ j, j < 8 → st j = 0) : wx_I T L op oA oB oC inn 1161 (((1 : Int32) <<< (nI T &&& 31)) - 1) 1 out rg lo st so (upd pl 0 0) (upd pe 0 (-1)) (upd pm 0 (((1 : Int32) <<< (nI T &&& 31)) - 1)) := by
  have ha := wa_ball T hT
  generalize ((1 : Int32) <<< (nI T &&& 31)) - 1 = al at *
  refine ⟨fun _ => 0, fun _ => 0, fun _ _ => 0, ⟨fun t ht => ⟨h3 t (by omega), Nat.zero_le _, Nat.zero_le _⟩, fun t ht _ => ?_, fun t ht hb => ?_, fun c hc => ?_⟩, ⟨fun t ht _ => And.intro (fun _ => And.intro pk_us pk_us) (fun hb => ?_), fun i hi => ?_⟩, ?_, fun i hi => by rw [ha, decide_eq_false (by omega)]⟩
  · rw [wa_g0 rg t (fun j hj => h2 _ (by omega))]
    rfl
  · rw [ha, decide_eq_true ht] at hb
    exact absurd hb (by decide)
  · rw [h1 c hc, wa_sm_0]
  · rw [pk_us, ha, decide_eq_true ht] at hb
    exact absurd hb (by decide)
  · have := wa_cn_n (bt (upd pm 0 al i)) T
    omega
  · have := wa_cn_n (bt al) T
    rw [wa_sn_c]
    omega
theorem wx_run {post : Int32 → SX → Prop} (hT : T ≤ 8) (hL : L ≤ 32) (K : ∀ al dp out rg lo st so pas mt pl pe pm, wa_Dn L op oA oB oC inn T out rg lo st so → post (wa_ct so T) (nI T, nI L, al, dp, op, oA, oB, oC, inn, out, rg, lo, st, so, pas, mt, pl, pe, pm)) : wpX_run post (nI T, nI L, al, dp, op, oA, oB, oC, inn, out, rg, lo, st, so, pas, mt, pl, pe, pm) := by
  unfold wpX_run
  dsimp only
  refine wx_find hL (fun pas' mt' _ => wx_reset (fun out' rg' st' h1 h2 h3 => nm_e (nm_e (nm_e ⟨1162, wx_39 hT hL (fun al dp out rg lo st so pl pe pm h => K al dp out rg lo st so pas' mt' pl pe pm h) 1161 0 _ 1 _ _ _ _ _ _ _ _ (by omega) (wx_init hT h1 h2 h3) _ (by omega)⟩))))
end
end
section
/-! Y: carryOut, runThread, run -/
theorem wy_calc {post : Int32 → Prop} {o x y : Int32} (K : post (wa_calc o x y)) : wpY_worked post o x y := by
  unfold wa_calc at K
  refine br_c (fun h => ?_) (fun h => br_c (fun h2 => ?_) (fun h2 => br_c (fun h3 => ?_) (fun h3 => br_c (fun h4 => ?_) (fun h4 => br_c (fun h5 => ?_) (fun h5 => ?_)))))
  · rw [if_pos h] at K; exact K
  · rw [if_neg h, if_pos h2] at K; exact K
  · rw [if_neg h, if_neg h2, if_pos h3] at K; exact K
  · rw [if_neg h, if_neg h2, if_neg h3, if_pos h4] at K; exact K
  · rw [if_neg h, if_neg h2, if_neg h3, if_neg h4, if_pos h5] at K; exact K
  · rw [if_neg h, if_neg h2, if_neg h3, if_neg h4, if_neg h5] at K; exact K
theorem wa_1 {o : Int32} (h : ¬ o < 0) (h0 : ¬ o = 0) : ¬ o < 1 := by
  rw [Int32.lt_iff_toInt_lt] at h ⊢
  rw [← Int32.toInt_inj] at h0
  have a0 : (0 : Int32).toInt = 0 := by decide
  have a1 : (1 : Int32).toInt = 1 := by decide
  omega
section
variable {T L : Nat} {op oA oB oC inn out rg lo st so : Nat → Int32}
theorem wy_171 {post : Int32 → SY → Prop} {t l : Nat} {out' rg' : Nat → Int32} (ht : t < 8) (hl : l < 32) (hr : op l = 10 → rg' = rg) (K : post (nI (wa_N op oA oB l (4 * t) rg)) (nI T, nI L, op, oA, oB, oC, inn, out', rg', lo, st, so)) : wY_carryOut_171 post (nI l) (op l) (nI (4 * t + wa_i3 (oA l))) (nI T) (nI L) op oA oB oC inn out' rg' lo st so := by
  have hl1 : vp_in (nI l) 32 := vp_in_nI hl (by omega)
  have v3 : vp_in (nI (4 * t + wa_i3 (oA l))) 32 := vp_in_nI (wa_ixl ht _) (by omega)
  have c3 : (nI (4 * t + wa_i3 (oA l))).toNatClampNeg = 4 * t + wa_i3 (oA l) := wa_cl (Nat.lt_trans (wa_ixl ht _) (by omega))
  unfold wY_carryOut_171
  rw [wa_cl (show l < 64 by omega), c3, wa_e31, nI_1]
  unfold wa_N at K
  refine br_c (fun h9 => And.intro hl1 ?_) (fun h9 => br_c (fun h10 => And.intro v3 (br_c (fun hz => And.intro hl1 ?_) (fun hz => ?_))) (fun h10 => ?_))
  · rw [if_pos h9] at K; exact K
  · rw [hr h10] at hz
    rw [if_neg h9, if_pos h10, if_pos hz] at K; exact K
  · rw [hr h10] at hz
    rw [if_neg h9, if_pos h10, if_neg hz] at K; exact K
  · rw [if_neg h9, if_neg h10] at K; exact K
theorem wy_carry {post : Int32 → SY → Prop} {t l : Nat} (ht : t < 8) (hl : l < 32) (hop : ¬ op l < 0) (hlo : lo t = nI l) (K : post (nI (wa_N op oA oB l (4 * t) rg)) (nI T, nI L, op, oA, oB, oC, inn, wa_O op oA oB l (4 * t) rg out, wa_R op oA oB oC inn t l (4 * t) rg, lo, st, so)) : wpY_carryOut post (nI T, nI L, op, oA, oB, oC, inn, out, rg, lo, st, so) (nI t) := by
  have hl1 : vp_in (nI l) 32 := vp_in_nI hl (by omega)
  have v8 : vp_in (nI t) 8 := vp_in_nI ht (by omega)
  have hc : (nI l).toNatClampNeg = l := wa_cl (by omega)
  have v3 : ∀ x, vp_in (nI (4 * t + wa_i3 x)) 32 := fun x => vp_in_nI (wa_ixl ht x) (by omega)
  have c3 : ∀ x, (nI (4 * t + wa_i3 x)).toNatClampNeg = 4 * t + wa_i3 x := fun x => wa_cl (Nat.lt_trans (wa_ixl ht x) (by omega))
  have v15 : ∀ x : Int32, vp_in (x &&& 15) 16 := fun x => by rw [wa_e15]; exact vp_in_nI (wa_i15l x) (by omega)
  have c15 : ∀ x : Int32, (x &&& 15).toNatClampNeg = wa_i15 x := fun x => by rw [wa_e15]; exact wa_cl (Nat.lt_trans (wa_i15l x) (by omega))
  unfold wpY_carryOut
  dsimp only
  rw [wa_cl (show t < 64 by omega), hlo]
  refine And.intro v8 (nm_e ?_)
  simp only [hc, wa_ix, c3]
  refine And.intro hl1 (nm_e (And.intro hl1 (nm_e (And.intro hl1 (And.intro (v3 _) (nm_e (And.intro hl1 (And.intro (v3 _) (nm_e ?_)))))))))
  have r10 : op l = 10 → wa_R op oA oB oC inn t l (4 * t) rg = rg := fun h => wa_Rid _ _ _ _ (by rw [h]; decide)
  by_cases h0 : op l = 0
  · have eR : wa_R op oA oB oC inn t l (4 * t) rg = upd rg (4 * t + wa_i3 (oA l)) (oB l) := by
      unfold wa_R wa_val
      rw [if_neg (by rw [h0]; decide), if_pos h0]
    rw [wa_Oid _ _ _ _ (by rw [h0]; decide)] at K
    rw [c3]
    exact br_t h0 (And.intro hl1 (And.intro (v3 _) (nm_r eR.symm (br_t (by rw [h0]; decide) (br_f (by rw [h0]; decide) (br_f (by rw [h0]; decide) (br_f (by rw [h0]; decide) (wy_171 ht hl r10 K))))))))
  · refine br_f h0 (br_f (wa_1 hop h0) ?_)
    by_cases h5 : 5 < op l
    · refine br_t h5 ?_
      by_cases h6 : op l = 6
      · have eR : wa_R op oA oB oC inn t l (4 * t) rg = upd rg (4 * t + wa_i3 (oA l)) (nI t) := by
          unfold wa_R wa_val
          rw [if_neg (by rw [h6]; decide), if_neg h0, if_pos h6]
        rw [wa_Oid _ _ _ _ (by rw [h6]; decide)] at K
        refine br_t h6 (And.intro (v3 _) ?_)
        rw [c3]
        exact nm_r eR.symm (br_f (by rw [h6]; decide) (br_f (by rw [h6]; decide) (wy_171 ht hl r10 K)))
      · refine br_f h6 ?_
        by_cases h7 : op l = 7
        · have eR : wa_R op oA oB oC inn t l (4 * t) rg = upd rg (4 * t + wa_i3 (oA l)) (inn (wa_i15 (rg (4 * t + wa_i3 (oB l))))) := by
            unfold wa_R wa_val
            rw [if_neg (by rw [h7]; decide), if_neg h0, if_neg h6, if_pos h7]
          rw [wa_Oid _ _ _ _ (by rw [h7]; decide)] at K
          refine br_t h7 (And.intro (v15 _) (And.intro (v3 _) ?_))
          rw [c3, c15]
          exact nm_r eR.symm (br_f (by rw [h7]; decide) (wy_171 ht hl r10 K))
        · refine br_f h7 ?_
          have eR := wa_Rid (op := op) (oA := oA) (oB := oB) (oC := oC) (inn := inn) t l (4 * t) rg (wa_7 h5 h6 h7)
          rw [eR] at K
          by_cases h8 : op l = 8
          · unfold wa_O at K
            rw [if_pos h8] at K
            refine br_t h8 (And.intro (v3 _) ?_)
            rw [c3]
            refine And.intro (v15 _) (And.intro (v15 _) ?_)
            rw [c15]
            exact nm_e (wy_171 ht hl (fun _ => rfl) K)
          · rw [wa_Oid _ _ _ _ h8] at K
            exact br_f h8 (wy_171 ht hl (fun _ => rfl) K)
    · refine br_f h5 (wy_calc (And.intro (v3 _) ?_))
      have ⟨g7, g6, g77, g8⟩ := wa_5 h5
      have eR : wa_R op oA oB oC inn t l (4 * t) rg = upd rg (4 * t + wa_i3 (oA l)) (wa_calc (op l) (rg (4 * t + wa_i3 (oB l))) (rg (4 * t + wa_i3 (oC l)))) := by
        unfold wa_R wa_val
        rw [if_neg g7, if_neg h0, if_neg g6, if_neg g77]
      rw [wa_Oid _ _ _ _ g8] at K
      rw [c3]
      exact nm_r eR.symm (br_f g6 (br_f g77 (br_f g8 (wy_171 ht hl r10 K))))
theorem wy_129 {post : SY → Prop} {t l : Nat} (ht : t < 8) (hL : L ≤ 32) (hl : l ≤ 32) (hlo : lo t = nI l) (K1 : l < L → post (nI T, nI L, op, oA, oB, oC, inn, out, rg, lo, st, so)) (K2 : L ≤ l → post (nI T, nI L, op, oA, oB, oC, inn, out, rg, lo, st, upd so t 1)) : wY_runThread_129 post (nI t) (nI T) (nI L) op oA oB oC inn out rg lo st so := by
  have v8 : vp_in (nI t) 8 := vp_in_nI ht (by omega)
  unfold wY_runThread_129
  rw [wa_cl (show t < 64 by omega), hlo]
  exact And.intro v8 (pk_lt l L (fun h => K1 h) (fun h => And.intro v8 (nm_e (K2 h))))
theorem wy_47s {post : SY → Prop} {t l n : Nat} {x2 : Int32} (ht : t < 8) (hL : L ≤ 32) (hl : l < L) (hlo : lo t = nI l) (hso : ¬ so t = 2) (K : post (nI T, nI L, op, oA, oB, oC, inn, out, rg, lo, st, so)) : wY_runThread_47 post (nI t) (n + 1) x2 (nI T) (nI L) op oA oB oC inn out rg lo st so := by
  have v8 : vp_in (nI t) 8 := vp_in_nI ht (by omega)
  have c8 : (nI t).toNatClampNeg = t := wa_cl (by omega)
  have E : wY_runThread_129 post (nI t) (nI T) (nI L) op oA oB oC inn out rg lo st so := wy_129 ht hL (by omega) hlo (fun _ => K) (fun h => absurd h (by omega))
  refine br_c (fun _ => E) (fun _ => And.intro v8 (br_f ?_ (And.intro v8 (br_f ?_ E))))
  · rw [c8, hlo]
    exact nI_ge hl (by omega)
  · rw [c8]
    exact hso
/-- what runThread t leaves: the outcome R at t, the others as they were -/
def wy_Q (R : Nat × Nat × Nat × (Nat → Int32) × (Nat → Int32)) (t : Nat) (out0 rg lo st so out' rg' lo' st' so' : Nat → Int32) : Prop :=
  (∀ s, s ≠ t → lo' s = lo s ∧ st' s = st s ∧ so' s = so s ∧ wa_g rg' s = wa_g rg s) ∧
  lo' t = nI R.1 ∧ st' t = nI R.2.1 ∧ so' t = nI R.2.2.1 ∧ wa_g rg' t = R.2.2.2.1 ∧ (∀ c, c < 16 → out' c = out0 c + R.2.2.2.2 c)
theorem wy_47 {post : SY → Prop} {t : Nat} {out0 : Nat → Int32} (ht : t < 8) (hL : L ≤ 32) (hop : ∀ i, ¬ op i < 0) :
    ∀ f l o out rg lo st so, f ≤ 48 → l ≤ 32 → lo t = nI l → st t = nI (48 - f) → so t = 2 → (∀ c, c < 16 → out c = out0 c + o c) →
    (∀ out' rg' lo' st' so', wy_Q (wa_run L op oA oB oC inn t f l (wa_g rg t) o) t out0 rg lo st so out' rg' lo' st' so' → post (nI T, nI L, op, oA, oB, oC, inn, out', rg', lo', st', so')) →
    ∀ n, f + 1 < n → wY_runThread_47 post (nI t) n (nI (48 - f)) (nI T) (nI L) op oA oB oC inn out rg lo st so := by
  have v8 : vp_in (nI t) 8 := vp_in_nI ht (by omega)
  have c8 : (nI t).toNatClampNeg = t := wa_cl (by omega)
  intro f
  induction f with
  | zero =>
    intro l o out rg lo st so hf hl hlo hst hso ho K n hn
    obtain ⟨n, rfl⟩ := wa_s (Nat.lt_of_le_of_lt (Nat.zero_le _) hn)
    refine br_t (nI_le (a := 48) (by omega) (by omega)) (wy_129 ht hL hl hlo (fun h => K _ _ _ _ _ ?_) (fun h => K _ _ _ _ _ ?_))
    · rw [wa_run_tired (by omega)]
      exact ⟨fun s _ => ⟨rfl, rfl, rfl, rfl⟩, hlo, hst, hso, rfl, ho⟩
    · rw [wa_run_end h (by omega)]
      exact ⟨fun s hs => ⟨rfl, rfl, pk_un hs, rfl⟩, hlo, hst, pk_us, rfl, ho⟩
  | succ f ih =>
    intro l o out rg lo st so hf hl hlo hst hso ho K n hn
    obtain ⟨n, rfl⟩ := wa_s (Nat.lt_of_le_of_lt (Nat.zero_le _) hn)
    refine br_f (nI_ge (b := 48) (by omega) (by omega)) (And.intro v8 ?_)
    rw [c8, hlo]
    refine pk_le L l (fun h => wy_129 ht hL hl hlo (fun h2 => absurd h (by omega)) (fun h2 => K _ _ _ _ _ ?_)) (fun h => ?_)
    · rw [wa_run_end h (by omega)]
      exact ⟨fun s hs => ⟨rfl, rfl, pk_un hs, rfl⟩, hlo, hst, pk_us, rfl, ho⟩
    · rw [wa_cl (show l < 64 by omega)]
      have e1 : nI (48 - (f + 1)) + 1 = nI (48 - f) := by
        rw [nI_1]
        exact congrArg nI (by omega)
      have e2 : upd st t (st t + 1) = upd st t (nI (48 - f)) := by rw [hst, e1]
      refine And.intro v8 (br_t hso (And.intro v8 (And.intro v8 (nm_r e2 (And.intro v8 (And.intro (vp_in_nI (by omega) (by omega)) (br_c (fun h11 => And.intro v8 (nm_e (nm_r e1 ?_))) (fun h11 => ?_))))))))
      · obtain ⟨n, rfl⟩ := wa_s (show 0 < n by omega)
        refine wy_47s ht hL h hlo (by rw [pk_us]; decide) (K _ _ _ _ _ ?_)
        rw [wa_run_11 (by omega) h11]
        exact ⟨fun s hs => ⟨rfl, pk_un hs, pk_un hs, rfl⟩, hlo, pk_us, pk_us, rfl, ho⟩
      · refine wy_carry ht (by omega) (hop l) hlo (And.intro v8 ?_)
        refine nm_e (nm_r e1 (ih _ (wa_O op oA oB l 0 (wa_g rg t) o) _ _ _ _ _ (by omega) (wa_Nle (l := l) (by omega)) pk_us pk_us hso (fun c hc => ?_) (fun out' rg' lo' st' so' Q => K out' rg' lo' st' so' ?_) n (by omega)))
        · obtain ⟨x, q1, q2⟩ := wa_Oadd (op := op) (oA := oA) (oB := oB) t l rg o out c
          rw [q1, q2, ho c hc, Int32.add_assoc]
        · rw [wa_run_s (by omega) h11]
          have eN : wa_N op oA oB l (4 * t) rg = wa_N op oA oB l 0 (wa_g rg t) := by
            unfold wa_N
            rw [Nat.zero_add, wa_gat _ _ (wa_i3l _)]
          rw [eN, wa_Rg] at Q
          refine ⟨fun s hs => ?_, Q.2⟩
          have q := Q.1 s hs
          rw [pk_un hs, pk_un hs, wa_Rn _ _ _ _ hs] at q
          exact q
theorem wy_2 {post : SY → Prop} {t : Nat} (ht : t < 8) (hL : L ≤ 32) (hop : ∀ i, ¬ op i < 0)
    (K : ∀ out' rg' lo' st' so', wy_Q (wa_fin L op oA oB oC inn t) t out rg lo st so out' rg' lo' st' so' → post (nI T, nI L, op, oA, oB, oC, inn, out', rg', lo', st', so')) :
    ∀ d i rg1, i + d = 4 → (∀ j, j < i → rg1 (4 * t + j) = 0) → (∀ s, s ≠ t → wa_g rg1 s = wa_g rg s) → ∀ n, d < n → wY_runThread_2 post (nI t) (nI T) (nI L) n (nI i) op oA oB oC inn out rg1 lo st so := by
  have v8 : vp_in (nI t) 8 := vp_in_nI ht (by omega)
  have c8 : (nI t).toNatClampNeg = t := wa_cl (by omega)
  intro d
  induction d with
  | zero =>
    intro i rg1 hi h0 h1 n hn
    obtain ⟨n, rfl⟩ := wa_s hn
    refine br_t (nI_le (a := 4) (by omega) (by omega)) ?_
    rw [c8]
    refine And.intro v8 (nm_e (And.intro v8 (nm_e (And.intro v8 (nm_e ⟨50, wy_47 (out0 := out) ht hL hop 48 0 (fun _ => 0) _ _ _ _ _ (by omega) (by omega) pk_us pk_us pk_us (fun c _ => (Int32.add_zero _).symm) (fun out' rg' lo' st' so' Q => K _ _ _ _ _ ?_) _ (by omega)⟩)))))
    rw [wa_g0 rg1 t (fun j hj => h0 j (by omega))] at Q
    refine ⟨fun s hs => ?_, Q.2⟩
    have q := Q.1 s hs
    rw [pk_un hs, pk_un hs, pk_un hs, h1 s hs] at q
    exact q
  | succ d ih =>
    intro i rg1 hi h0 h1 n hn
    obtain ⟨n, rfl⟩ := wa_s (Nat.lt_of_le_of_lt (Nat.zero_le _) hn)
    refine br_f (nI_ge (b := 4) (by omega) (by omega)) ?_
    have e : (4 : Int32) * nI t + nI i = nI (4 * t + i) := by
      show nI 4 * nI t + nI i = _
      rw [pk_mul, nI_add]
    rw [e, wa_cl (show 4 * t + i < 64 by omega)]
    refine And.intro (vp_in_nI (by omega) (by omega)) (nm_e (nm_r (nI_1 i) (ih (i + 1) _ (by omega) (fun j hj => ?_) (fun s hs => ?_) n (by omega))))
    · by_cases e : j = i
      · rw [e, pk_us]
      · rw [pk_un (by omega)]
        exact h0 j (by omega)
    · rw [wa_gn _ _ _ _ _ (by omega) hs]
      exact h1 s hs
theorem wy_rt {post : SY → Prop} {t : Nat} (ht : t < 8) (hL : L ≤ 32) (hop : ∀ i, ¬ op i < 0)
    (K : ∀ out' rg' lo' st' so', wy_Q (wa_fin L op oA oB oC inn t) t out rg lo st so out' rg' lo' st' so' → post (nI T, nI L, op, oA, oB, oC, inn, out', rg', lo', st', so')) : wpY_runThread post (nI T, nI L, op, oA, oB, oC, inn, out, rg, lo, st, so) (nI t) := by
  unfold wpY_runThread
  dsimp only
  exact ⟨5, wy_2 ht hL hop K 4 0 rg (by omega) (fun j hj => absurd hj (by omega)) (fun _ _ => rfl) _ (by omega)⟩
theorem wy_25 {post : Int32 → SY → Prop} (hT : T ≤ 8) (hL : L ≤ 32) (hop : ∀ i, ¬ op i < 0)
    (K : ∀ out rg lo st so, wa_Dn L op oA oB oC inn T out rg lo st so → post (wa_ct (fun t => nI (wa_fin L op oA oB oC inn t).2.2.1) T) (nI T, nI L, op, oA, oB, oC, inn, out, rg, lo, st, so)) :
    ∀ d i out rg lo st so, i + d = T → wa_Dn L op oA oB oC inn i out rg lo st so → ∀ n, d < n → wY_run_25 post n (wa_ct (fun t => nI (wa_fin L op oA oB oC inn t).2.2.1) i) (nI i) (nI T) (nI L) op oA oB oC inn out rg lo st so := by
  intro d
  induction d with
  | zero =>
    intro i out rg lo st so hi h n hn
    obtain ⟨n, rfl⟩ := wa_s hn
    have e : i = T := by omega
    rw [e] at h ⊢
    exact br_t (nI_le (Nat.le_refl _) (by omega)) (K _ _ _ _ _ h)
  | succ d ih =>
    intro i out rg lo st so hi h n hn
    obtain ⟨n, rfl⟩ := wa_s (Nat.lt_of_le_of_lt (Nat.zero_le _) hn)
    refine br_f (nI_ge (by omega) (by omega)) (wy_rt (by omega) hL hop (fun out' rg' lo' st' so' Q => And.intro (vp_in_nI (by omega) (by omega)) ?_))
    have D : wa_Dn L op oA oB oC inn (i + 1) out' rg' lo' st' so' := by
      obtain ⟨q1, q2, q3, q4, q5, q6⟩ := Q
      refine ⟨fun t ht => ?_, fun c hc => ?_⟩
      · by_cases e : t = i
        · rw [e]
          exact ⟨q2, q3, q4, q5⟩
        · have q := q1 t e
          rw [q.1, q.2.1, q.2.2.1, q.2.2.2]
          exact h.1 t (by omega)
      · rw [q6 c hc, h.2 c hc]
        rfl
    have e := ih (i + 1) out' rg' lo' st' so' (by omega) D n (by omega)
    rw [wa_cl (show i < 64 by omega), (D.1 i (by omega)).2.2.1]
    exact br_c (fun hs => nm_r (if_pos hs).symm (nm_r (nI_1 i) e)) (fun hs => nm_r (nI_1 i) (by rw [show wa_ct (fun t => nI (wa_fin L op oA oB oC inn t).2.2.1) (i + 1) = wa_ct (fun t => nI (wa_fin L op oA oB oC inn t).2.2.1) i from if_neg hs] at e; exact e))
theorem wy_r2 {post : Int32 → SY → Prop} (hT : T ≤ 8) (hL : L ≤ 32) (hop : ∀ i, ¬ op i < 0)
    (K : ∀ out rg lo st so, wa_Dn L op oA oB oC inn T out rg lo st so → post (wa_ct (fun t => nI (wa_fin L op oA oB oC inn t).2.2.1) T) (nI T, nI L, op, oA, oB, oC, inn, out, rg, lo, st, so)) :
    ∀ d i out, i + d = 16 → (∀ j, j < i → out j = 0) → ∀ n, d < n → wY_run_2 post (nI T) (nI L) n (nI i) op oA oB oC inn out rg lo st so := by
  intro d
  induction d with
  | zero =>
    intro i out hi h n hn
    obtain ⟨n, rfl⟩ := wa_s hn
    exact br_t (nI_le (a := 16) (by omega) (by omega)) ⟨T + 1, wy_25 hT hL hop K T 0 out rg lo st so (by omega) ⟨fun t ht => absurd ht (by omega), fun c hc => h c (by omega)⟩ _ (by omega)⟩
  | succ d ih =>
    intro i out hi h n hn
    obtain ⟨n, rfl⟩ := wa_s (Nat.lt_of_le_of_lt (Nat.zero_le _) hn)
    refine br_f (nI_ge (b := 16) (by omega) (by omega)) (And.intro (vp_in_nI (by omega) (by omega)) (nm_r (e' := upd out i 0) ?_ (nm_r (nI_1 i) (ih (i + 1) _ (by omega) (wa_u0 h) n (by omega)))))
    rw [wa_cl (by omega)]
theorem wy_run {post : Int32 → SY → Prop} (hT : T ≤ 8) (hL : L ≤ 32) (hop : ∀ i, ¬ op i < 0)
    (K : ∀ out rg lo st so, wa_Dn L op oA oB oC inn T out rg lo st so → post (wa_ct (fun t => nI (wa_fin L op oA oB oC inn t).2.2.1) T) (nI T, nI L, op, oA, oB, oC, inn, out, rg, lo, st, so)) : wpY_run post (nI T, nI L, op, oA, oB, oC, inn, out, rg, lo, st, so) := by
  unfold wpY_run
  dsimp only
  exact ⟨17, wy_r2 hT hL hop K 16 0 out (by omega) (fun j hj => absurd hj (by omega)) _ (by omega)⟩
end
end
section
/-! what is owed -/
/-- one program, input and number of threads; the same registers, lines, steps and states of the threads, the same output -/
def i_Rel (k : Nat) (u : SX) (v : SY) : Prop :=
  ∃ (T L : Nat) (al dp : Int32) (op oA oB oC inn out rg lo st so : Nat → Int32) (pas : Nat → Int64) (mt pl pe pm out' rg' lo' st' so' : Nat → Int32),
    u = (nI T, nI L, al, dp, op, oA, oB, oC, inn, out, rg, lo, st, so, pas, mt, pl, pe, pm) ∧ v = (nI T, nI L, op, oA, oB, oC, inn, out', rg', lo', st', so') ∧ k = k ∧ T ≤ 8 ∧ L ≤ 32 ∧ (∀ i, ¬ op i < 0) ∧
    (∀ c, c < 16 → out' c = out c) ∧ (∀ t, t < T → lo' t = lo t ∧ st' t = st t ∧ so' t = so t ∧ ∀ j, j < 4 → rg' (4 * t + j) = rg (4 * t + j))
section
variable {T L : Nat} {al dp : Int32} {op oA oB oC inn out rg lo st so : Nat → Int32} {pas : Nat → Int64} {mt pl pe pm : Nat → Int32}
theorem wz_in {k : Nat} {out' rg' lo' st' so' : Nat → Int32} (hT : T ≤ 8) (hL : L ≤ 32) (hop : ∀ i, ¬ op i < 0) (ho : ∀ c, c < 16 → out' c = out c) (h : ∀ t, t < T → lo' t = lo t ∧ st' t = st t ∧ so' t = so t ∧ ∀ j, j < 4 → rg' (4 * t + j) = rg (4 * t + j)) : i_Rel k (nI T, nI L, al, dp, op, oA, oB, oC, inn, out, rg, lo, st, so, pas, mt, pl, pe, pm) (nI T, nI L, op, oA, oB, oC, inn, out', rg', lo', st', so') :=
  ⟨T, L, al, dp, op, oA, oB, oC, inn, out, rg, lo, st, so, pas, mt, pl, pe, pm, out', rg', lo', st', so', rfl, rfl, rfl, hT, hL, hop, ho, h⟩
end
theorem wz_el {k : Nat} {u : SX} {v : SY} {P : SX → SY → Prop} (I : i_Rel k u v)
    (h : ∀ (T L : Nat) (al dp : Int32) (op oA oB oC inn out rg lo st so : Nat → Int32) (pas : Nat → Int64) (mt pl pe pm out' rg' lo' st' so' : Nat → Int32), T ≤ 8 → L ≤ 32 → (∀ i, ¬ op i < 0) → (∀ c, c < 16 → out' c = out c) → (∀ t, t < T → lo' t = lo t ∧ st' t = st t ∧ so' t = so t ∧ ∀ j, j < 4 → rg' (4 * t + j) = rg (4 * t + j)) → P (nI T, nI L, al, dp, op, oA, oB, oC, inn, out, rg, lo, st, so, pas, mt, pl, pe, pm) (nI T, nI L, op, oA, oB, oC, inn, out', rg', lo', st', so')) : P u v := by
  obtain ⟨T, L, al, dp, op, oA, oB, oC, inn, out, rg, lo, st, so, pas, mt, pl, pe, pm, out', rg', lo', st', so', e1, e2, _, hT, hL, hop, ho, hh⟩ := I
  rw [e1, e2]
  exact h T L al dp op oA oB oC inn out rg lo st so pas mt pl pe pm out' rg' lo' st' so' hT hL hop ho hh
theorem i_up {k : Nat} {u : SX} {v : SY} (h : i_Rel k u v) : i_Rel (k + 5) u v := by
  refine wz_el (P := fun u v => i_Rel (k + 5) u v) h ?_
  intro T L al dp op oA oB oC inn out rg lo st so pas mt pl pe pm out' rg' lo' st' so' hT hL hop ho hh
  exact wz_in hT hL hop ho hh
theorem wz_0 {T : Nat} (hT : T ≤ 8) {al dp : Int32} : i_Rel 1 (nI T, 0, al, dp, (fun _ => 0), (fun _ => 0), (fun _ => 0), (fun _ => 0), (fun _ => 0), (fun _ => 0), (fun _ => 0), (fun _ => 0), (fun _ => 0), (fun _ => 0), (fun _ => 0), (fun _ => 0), (fun _ => 0), (fun _ => 0), (fun _ => 0)) (nI T, 0, (fun _ => 0), (fun _ => 0), (fun _ => 0), (fun _ => 0), (fun _ => 0), (fun _ => 0), (fun _ => 0), (fun _ => 0), (fun _ => 0), (fun _ => 0)) :=
  wz_in (T := T) (L := 0) hT (by omega) (fun _ => by show ¬ (0 : Int32) < 0; decide) (fun _ _ => rfl) (fun _ _ => ⟨rfl, rfl, rfl, fun _ _ => rfl⟩)
theorem i_vc0 (k0 : Int32) : wpX_init (fun u => wpY_init (fun v => i_Rel 1 u v) k0) k0 := by
  refine br_c (fun h1 => br_c (fun h2 => ?_) (fun h2 => ?_)) (fun h1 => ?_)
  · have h0 : ¬ k0 < 0 := by
      intro h
      rw [Int32.lt_iff_toInt_lt] at h
      rw [Int32.le_iff_toInt_le] at h1
      have a0 : (0 : Int32).toInt = 0 := by decide
      have a1 : (1 : Int32).toInt = 1 := by decide
      omega
    have e8 : (8 : Int32).toInt = ((8 : Nat) : Int) := by decide
    obtain ⟨T, hT, rfl⟩ := nI_of2 e8 h0 h2
    exact br_t h1 (br_t h2 (wz_0 hT))
  · exact br_t h1 (br_f h2 (wz_0 (T := 8) (by omega)))
  · exact br_f h1 (wz_0 (T := 1) (by omega))
theorem wz_opu {op : Nat → Int32} {i : Nat} {x : Int32} (h : ∀ i, ¬ op i < 0) (hx : ¬ x < 0) : ∀ j, ¬ upd op i x j < 0 := by
  intro j
  by_cases e : j = i
  · rw [e, pk_us]; exact hx
  · rw [pk_un e]; exact h j
theorem i_vc_emit {k : Nat} {u : SX} {v : SY} (I : i_Rel k u v) (hk : k + 5 ≤ 2561) (v1 : Int32) (v2 : Int32) (v3 : Int32) (v4 : Int32) : wpX_emit (fun r u' => wpY_emit (fun r' v' => r' = r ∧ i_Rel (k + 5) u' v') v v1 v2 v3 v4) u v1 v2 v3 v4 := by
  refine wz_el (P := fun u v => wpX_emit (fun r u' => wpY_emit (fun r' v' => r' = r ∧ i_Rel (k + 5) u' v') v v1 v2 v3 v4) u v1 v2 v3 v4) I ?_
  intro T L al dp op oA oB oC inn out rg lo st so pas mt pl pe pm out' rg' lo' st' so' hT hL hop ho hh
  by_cases h1 : v1 < 0
  · exact br_t h1 (br_t h1 ⟨rfl, wz_in hT hL hop ho hh⟩)
  · by_cases h2 : 11 < v1
    · exact br_f h1 (br_t h2 (br_f h1 (br_t h2 ⟨rfl, wz_in hT hL hop ho hh⟩)))
    · by_cases h3 : L = 32
      · have a : ¬ nI L < 32 := nI_nlt (b := 32) (by omega) (by omega)
        have b : nI L = 32 := by rw [h3]; rfl
        exact br_f h1 (br_f h2 (br_f a (br_f h1 (br_f h2 (br_t b ⟨rfl, wz_in hT hL hop ho hh⟩)))))
      · have a : nI L < 32 := nI_lt (b := 32) (by omega) (by omega)
        have b : ¬ nI L = 32 := fun e => h3 ((nI_eq (b := 32) (by omega) (by omega)).mp e)
        have v : vp_in (nI L) 32 := vp_in_nI (by omega) (by omega)
        refine br_f h1 (br_f h2 (br_t a (And.intro v (nm_e (And.intro v (nm_e (And.intro v (nm_e (And.intro v (nm_e (nm_r (nI_1 L) (br_f h1 (br_f h2 (br_f b (And.intro v (nm_e (And.intro v (nm_e (And.intro v (nm_e (And.intro v (nm_e (nm_r (nI_1 L) ⟨rfl, ?_⟩)))))))))))))))))))))))
        exact wz_in hT (by omega) (wz_opu hop h1) ho hh
theorem i_vc_clear {k : Nat} {u : SX} {v : SY} (I : i_Rel k u v) (hk : k + 5 ≤ 2561) : wpX_clear (fun u' => wpY_clear (fun v' => i_Rel (k + 5) u' v') v) u := by
  refine wz_el (P := fun u v => wpX_clear (fun u' => wpY_clear (fun v' => i_Rel (k + 5) u' v') v) u) I ?_
  intro T L al dp op oA oB oC inn out rg lo st so pas mt pl pe pm out' rg' lo' st' so' hT hL hop ho hh
  exact wz_in (L := 0) hT (by omega) hop ho hh
theorem i_vc_input {k : Nat} {u : SX} {v : SY} (I : i_Rel k u v) (hk : k + 5 ≤ 2561) (v1 : Int32) (v2 : Int32) : wpX_input (fun u' => wpY_input (fun v' => i_Rel (k + 5) u' v') v v1 v2) u v1 v2 := by
  refine wz_el (P := fun u v => wpX_input (fun u' => wpY_input (fun v' => i_Rel (k + 5) u' v') v v1 v2) u v1 v2) I ?_
  intro T L al dp op oA oB oC inn out rg lo st so pas mt pl pe pm out' rg' lo' st' so' hT hL hop ho hh
  have v : vp_in (v1 &&& 15) 16 := by rw [wa_e15]; exact vp_in_nI (wa_i15l v1) (by omega)
  exact And.intro v (nm_e (And.intro v (nm_e (wz_in hT hL hop ho hh))))
theorem i_vc_run {k : Nat} {u : SX} {v : SY} (I : i_Rel k u v) (hk : k + 5 ≤ 2561) : wpX_run (fun r u' => wpY_run (fun r' v' => r' = r ∧ i_Rel (k + 5) u' v') v) u := by
  refine wz_el (P := fun u v => wpX_run (fun r u' => wpY_run (fun r' v' => r' = r ∧ i_Rel (k + 5) u' v') v) u) I ?_
  intro T L al dp op oA oB oC inn out rg lo st so pas mt pl pe pm out' rg' lo' st' so' hT hL hop ho hh
  refine wx_run hT hL (fun al dp out rg lo st so pas mt pl pe pm D => ?_)
  refine wy_run hT hL hop (fun out' rg' lo' st' so' D' => ⟨wa_ct_e T (fun t ht => (D.1 t ht).2.2.1.symm), wz_in hT hL hop (fun c hc => (D'.2 c hc).trans (D.2 c hc).symm) (fun t ht => ?_)⟩)
  have a := D.1 t ht
  have b := D'.1 t ht
  refine ⟨b.1.trans a.1.symm, b.2.1.trans a.2.1.symm, b.2.2.1.trans a.2.2.1.symm, fun j hj => ?_⟩
  rw [← wa_gat rg' t hj, ← wa_gat rg t hj, b.2.2.2, a.2.2.2]
theorem wz_ix {T : Nat} {x : Int32} (h0 : ¬ x < 0) (h1 : ¬ nI T ≤ x) (hT : T ≤ 8) : ∃ t, t < T ∧ x = nI t := by
  obtain ⟨j, hj, rfl⟩ := nI_of h0
  exact ⟨j, Nat.lt_of_not_le (fun h => h1 (nI_le h hj)), rfl⟩
theorem i_vc_reg {k : Nat} {u : SX} {v : SY} (I : i_Rel k u v) (hk : k + 5 ≤ 2561) (v1 : Int32) (v2 : Int32) : wpX_reg (fun r => wpY_reg (fun r' => r' = r ∧ i_Rel (k + 5) u v) v v1 v2) u v1 v2 := by
  have I' := i_up I
  revert I'
  refine wz_el (P := fun u v => i_Rel (k + 5) u v → wpX_reg (fun r => wpY_reg (fun r' => r' = r ∧ i_Rel (k + 5) u v) v v1 v2) u v1 v2) I ?_
  intro T L al dp op oA oB oC inn out rg lo st so pas mt pl pe pm out' rg' lo' st' so' hT hL hop ho hh I'
  unfold wpX_reg wpY_reg
  dsimp only
  by_cases h1 : v1 < 0
  · exact br_t h1 (br_t rfl (br_t h1 (br_f (by decide) ⟨rfl, I'⟩)))
  · by_cases h2 : nI T ≤ v1
    · exact br_f h1 (br_t h2 (br_t rfl (br_f h1 (br_f (Int32.not_lt.mpr h2) (br_f (by decide) ⟨rfl, I'⟩)))))
    · obtain ⟨t, ht, rfl⟩ := wz_ix h1 h2 hT
      have v : vp_in (nI (4 * t + wa_i3 v2)) 32 := vp_in_nI (wa_ixl (by omega) _) (by omega)
      rw [wa_ix, wa_cl (Nat.lt_trans (wa_ixl (show t < 8 by omega) _) (by omega))]
      exact br_f h1 (br_f h2 (br_f (by decide) (And.intro v (br_f h1 (br_t (Int32.not_le.mp h2) (br_t rfl (And.intro v ⟨(hh t ht).2.2.2 _ (wa_i3l _), I'⟩)))))))
theorem i_vc_line {k : Nat} {u : SX} {v : SY} (I : i_Rel k u v) (hk : k + 5 ≤ 2561) (v1 : Int32) : wpX_line (fun r => wpY_line (fun r' => r' = r ∧ i_Rel (k + 5) u v) v v1) u v1 := by
  have I' := i_up I
  revert I'
  refine wz_el (P := fun u v => i_Rel (k + 5) u v → wpX_line (fun r => wpY_line (fun r' => r' = r ∧ i_Rel (k + 5) u v) v v1) u v1) I ?_
  intro T L al dp op oA oB oC inn out rg lo st so pas mt pl pe pm out' rg' lo' st' so' hT hL hop ho hh I'
  unfold wpX_line wpY_line
  dsimp only
  by_cases h1 : v1 < 0
  · exact br_t h1 (br_t rfl (br_t h1 (br_f (by decide) ⟨rfl, I'⟩)))
  · by_cases h2 : nI T ≤ v1
    · exact br_f h1 (br_t h2 (br_t rfl (br_f h1 (br_f (Int32.not_lt.mpr h2) (br_f (by decide) ⟨rfl, I'⟩)))))
    · obtain ⟨t, ht, rfl⟩ := wz_ix h1 h2 hT
      have v : vp_in (nI t) 8 := vp_in_nI (by omega) (by omega)
      rw [wa_cl (show t < 64 by omega)]
      exact br_f h1 (br_f h2 (br_f (by decide) (And.intro v (br_f h1 (br_t (Int32.not_le.mp h2) (br_t rfl (And.intro v ⟨(hh t ht).1, I'⟩)))))))
theorem i_vc_steps {k : Nat} {u : SX} {v : SY} (I : i_Rel k u v) (hk : k + 5 ≤ 2561) (v1 : Int32) : wpX_steps (fun r => wpY_steps (fun r' => r' = r ∧ i_Rel (k + 5) u v) v v1) u v1 := by
  have I' := i_up I
  revert I'
  refine wz_el (P := fun u v => i_Rel (k + 5) u v → wpX_steps (fun r => wpY_steps (fun r' => r' = r ∧ i_Rel (k + 5) u v) v v1) u v1) I ?_
  intro T L al dp op oA oB oC inn out rg lo st so pas mt pl pe pm out' rg' lo' st' so' hT hL hop ho hh I'
  unfold wpX_steps wpY_steps
  dsimp only
  by_cases h1 : v1 < 0
  · exact br_t h1 (br_t rfl (br_t h1 (br_f (by decide) ⟨rfl, I'⟩)))
  · by_cases h2 : nI T ≤ v1
    · exact br_f h1 (br_t h2 (br_t rfl (br_f h1 (br_f (Int32.not_lt.mpr h2) (br_f (by decide) ⟨rfl, I'⟩)))))
    · obtain ⟨t, ht, rfl⟩ := wz_ix h1 h2 hT
      have v : vp_in (nI t) 8 := vp_in_nI (by omega) (by omega)
      rw [wa_cl (show t < 64 by omega)]
      exact br_f h1 (br_f h2 (br_f (by decide) (And.intro v (br_f h1 (br_t (Int32.not_le.mp h2) (br_t rfl (And.intro v ⟨(hh t ht).2.1, I'⟩)))))))
theorem i_vc_state {k : Nat} {u : SX} {v : SY} (I : i_Rel k u v) (hk : k + 5 ≤ 2561) (v1 : Int32) : wpX_state (fun r => wpY_state (fun r' => r' = r ∧ i_Rel (k + 5) u v) v v1) u v1 := by
  have I' := i_up I
  revert I'
  refine wz_el (P := fun u v => i_Rel (k + 5) u v → wpX_state (fun r => wpY_state (fun r' => r' = r ∧ i_Rel (k + 5) u v) v v1) u v1) I ?_
  intro T L al dp op oA oB oC inn out rg lo st so pas mt pl pe pm out' rg' lo' st' so' hT hL hop ho hh I'
  unfold wpX_state wpY_state
  dsimp only
  by_cases h1 : v1 < 0
  · exact br_t h1 (br_t rfl (br_t h1 (br_f (by decide) ⟨rfl, I'⟩)))
  · by_cases h2 : nI T ≤ v1
    · exact br_f h1 (br_t h2 (br_t rfl (br_f h1 (br_f (Int32.not_lt.mpr h2) (br_f (by decide) ⟨rfl, I'⟩)))))
    · obtain ⟨t, ht, rfl⟩ := wz_ix h1 h2 hT
      have v : vp_in (nI t) 8 := vp_in_nI (by omega) (by omega)
      rw [wa_cl (show t < 64 by omega)]
      exact br_f h1 (br_f h2 (br_f (by decide) (And.intro v (br_f h1 (br_t (Int32.not_le.mp h2) (br_t rfl (And.intro v ⟨(hh t ht).2.2.1, I'⟩)))))))
theorem i_vc_output {k : Nat} {u : SX} {v : SY} (I : i_Rel k u v) (hk : k + 5 ≤ 2561) (v1 : Int32) : wpX_output (fun r => wpY_output (fun r' => r' = r ∧ i_Rel (k + 5) u v) v v1) u v1 := by
  have I' := i_up I
  revert I'
  refine wz_el (P := fun u v => i_Rel (k + 5) u v → wpX_output (fun r => wpY_output (fun r' => r' = r ∧ i_Rel (k + 5) u v) v v1) u v1) I ?_
  intro T L al dp op oA oB oC inn out rg lo st so pas mt pl pe pm out' rg' lo' st' so' hT hL hop ho hh I'
  unfold wpX_output wpY_output
  dsimp only
  rw [wa_e15, wa_cl (Nat.lt_trans (wa_i15l v1) (by omega))]
  have v : vp_in (nI (wa_i15 v1)) 16 := vp_in_nI (wa_i15l v1) (by omega)
  exact And.intro v (And.intro v ⟨ho _ (wa_i15l v1), I'⟩)
end
