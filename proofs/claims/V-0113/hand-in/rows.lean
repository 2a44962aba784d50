section
/-! rows of kit/rows (starting texts): pk_, bt, b_ -/
theorem pk_us {f : Nat → Int32} {k : Nat} {x : Int32} : upd f k x k = x := if_pos rfl
theorem pk_un {f : Nat → Int32} {k j : Nat} {x : Int32} (h : j ≠ k) : upd f k x j = f j := if_neg h
theorem pk_sub {a b : Nat} (h : b ≤ a) : nI a - nI b = nI (a - b) := by
  obtain ⟨c, rfl⟩ : ∃ c, a = c + b := ⟨a - b, by omega⟩
  rw [← nI_add, Int32.add_sub_cancel, Nat.add_sub_cancel]
theorem pk_mul (a b : Nat) : nI a * nI b = nI (a * b) := (Int32.ofNat_mul a b).symm
theorem pk_ix (x : Int32) {n : Nat} (hn : n < 2 ^ 31) : x < 0 ∨ nI n ≤ x ∨ ∃ j : Nat, j < n ∧ x = nI j := by
  by_cases h : x < 0
  · exact Or.inl h
  · obtain ⟨j, hj, rfl⟩ := nI_of h
    by_cases h2 : j < n
    · exact Or.inr (Or.inr ⟨j, h2, rfl⟩)
    · exact Or.inr (Or.inl (nI_le (by omega) hj))
theorem pk_le {x y : Int32} {A B : Prop} (a b : Nat) (f : a ≤ b → A) (g : b < a → B) (hx : x = nI a := by rfl) (hy : y = nI b := by rfl) (ha : a < 2 ^ 31 := by omega) (hb : b < 2 ^ 31 := by omega) : (x ≤ y → A) ∧ (¬ x ≤ y → B) := by
  subst hx hy
  rw [nI_leI ha hb]
  exact ⟨f, fun z => g (by omega)⟩
theorem pk_lt {x y : Int32} {A B : Prop} (a b : Nat) (f : a < b → A) (g : b ≤ a → B) (hx : x = nI a := by rfl) (hy : y = nI b := by rfl) (ha : a < 2 ^ 31 := by omega) (hb : b < 2 ^ 31 := by omega) : (x < y → A) ∧ (¬ x < y → B) := by
  subst hx hy
  rw [nI_ltI ha hb]
  exact ⟨f, fun z => g (by omega)⟩
theorem pk_eq {x y : Int32} {A B : Prop} (a b : Nat) (f : a = b → A) (g : a ≠ b → B) (hx : x = nI a := by rfl) (hy : y = nI b := by rfl) (ha : a < 2 ^ 31 := by omega) (hb : b < 2 ^ 31 := by omega) : (x = y → A) ∧ (¬ x = y → B) := by
  subst hx hy
  rw [nI_eq ha hb]
  exact ⟨f, g⟩
theorem pk_in {x : Int32} (n N : Nat) (h : n < N) (hx : x = nI n := by rfl) (hN : N < 2 ^ 31 := by omega) : vp_in x N := by
  subst hx
  exact vp_in_nI h hN
theorem pk_cl {x : Int32} (n : Nat) (hx : x = nI n := by rfl) (h : n < 2 ^ 31 := by omega) : x.toNatClampNeg = n := by
  subst hx
  exact nI_clamp h
def bt (x : Int32) (i : Nat) : Bool := x.toBitVec.getLsbD i
theorem b_ext {x y : Int32} (h : ∀ i, i < 32 → bt x i = bt y i) : x = y := Int32.toBitVec_inj.mp (BitVec.eq_of_getLsbD_eq (fun i hi => h i hi))
theorem b_or (x y : Int32) (i : Nat) : bt (x ||| y) i = (bt x i || bt y i) := by unfold bt; rw [Int32.toBitVec_or, BitVec.getLsbD_or]
theorem b_and (x y : Int32) (i : Nat) : bt (x &&& y) i = (bt x i && bt y i) := by unfold bt; rw [Int32.toBitVec_and, BitVec.getLsbD_and]
theorem b_xor (x y : Int32) (i : Nat) : bt (x ^^^ y) i = (bt x i ^^ bt y i) := by unfold bt; rw [Int32.toBitVec_xor, BitVec.getLsbD_xor]
theorem b_big {x : Int32} {i : Nat} (h : 32 ≤ i) : bt x i = false := BitVec.getLsbD_of_ge _ _ h
theorem b_m1 : ∀ i, i < 32 → bt (-1) i = true := by decide +kernel
theorem b_0 (i : Nat) : bt 0 i = false := BitVec.getLsbD_zero
/-! own rows: bits, indices, small steps -/
def pa_bit (s : Nat) : Int32 := (1 : Int32) <<< (nI s &&& 31)
theorem pa_bt1a : ∀ s, s < 32 → ∀ i, i < 32 → bt ((1 : Int32) <<< (nI s &&& 31)) i = decide (i = s) := by decide +kernel
theorem pa_bt1 {s : Nat} (hs : s < 32) (i : Nat) : bt ((1 : Int32) <<< (nI s &&& 31)) i = decide (i = s) := by
  rcases Nat.lt_or_ge i 32 with h | h
  · exact pa_bt1a s hs i h
  · rw [b_big h, decide_eq_false (by omega)]
theorem pa_eq0 (m : Int32) : m = 0 ↔ ∀ i, bt m i = false := by
  constructor
  · intro h i
    rw [h, b_0]
  · intro h
    exact b_ext fun i _ => by rw [h i, b_0]
theorem pa_and0 (m : Int32) {s : Nat} (hs : s < 32) : (m &&& ((1 : Int32) <<< (nI s &&& 31))) = 0 ↔ bt m s = false := by
  rw [pa_eq0]
  constructor
  · intro h
    have h1 := h s
    rw [b_and, pa_bt1 hs, decide_eq_true rfl, Bool.and_true] at h1
    exact h1
  · intro h i
    rw [b_and, pa_bt1 hs]
    by_cases e : i = s
    · rw [e, h, Bool.false_and]
    · rw [decide_eq_false e, Bool.and_false]
theorem pa_and1 (m : Int32) {s : Nat} (hs : s < 32) : ¬ (m &&& ((1 : Int32) <<< (nI s &&& 31))) = 0 ↔ bt m s = true := by
  rw [pa_and0 m hs]
  cases bt m s <;> simp
theorem pa_ac (m y : Int32) (i : Nat) : bt (m &&& (y ^^^ (-1))) i = (bt m i && !bt y i) := by
  rcases Nat.lt_or_ge i 32 with h | h
  · rw [b_and, b_xor, b_m1 i h, Bool.xor_true]
  · rw [b_big h, b_big h, Bool.false_and]
theorem pa_orb (m : Int32) {s : Nat} (hs : s < 32) (i : Nat) : bt (m ||| ((1 : Int32) <<< (nI s &&& 31))) i = (bt m i || decide (i = s)) := by
  rw [b_or, pa_bt1 hs]
theorem pa_at (s t : Nat) : nI s * 8 + nI t = nI (s * 8 + t) := by
  show nI s * nI 8 + nI t = _
  rw [pk_mul, nI_add]
theorem pa_at0 (t : Nat) : (0 : Int32) * 8 + nI t = nI t := by
  have h := pa_at 0 t
  rw [Nat.zero_mul, Nat.zero_add] at h
  exact h
theorem pa_cell (s t k : Nat) : (nI s * 8 + nI t) * 8 + nI k = nI ((s * 8 + t) * 8 + k) := by rw [pa_at, pa_at]
theorem pa_cell0 (t k : Nat) : ((0 : Int32) * 8 + nI t) * 8 + nI k = nI (t * 8 + k) := by rw [pa_at0, pa_at]
theorem pa_fx (k s t : Nat) : (nI k * 40 + nI s * 8) + nI t = nI (k * 40 + s * 8 + t) := by
  show (nI k * nI 40 + nI s * nI 8) + nI t = _
  rw [pk_mul, pk_mul, nI_add, nI_add]
theorem pa_wx (k t s : Nat) : (nI k * 8 + nI t) * 5 + nI s = nI ((k * 8 + t) * 5 + s) := by
  show (nI k * nI 8 + nI t) * nI 5 + nI s = _
  rw [pk_mul, nI_add, pk_mul, nI_add]
theorem pa_nb0 : vp_nar .boolean 0 = 0 := rfl
theorem pa_nb1 : vp_nar .boolean 1 = 1 := rfl
def pa_b (b : Bool) : Int32 := if b = true then 1 else 0
theorem pa_b0 {b : Bool} : pa_b b = 0 ↔ b = false := by cases b <;> decide
theorem pa_b1 {b : Bool} : ¬ pa_b b = 0 ↔ b = true := by cases b <;> decide
theorem pa_nbb (b : Bool) : vp_nar .boolean (pa_b b) = pa_b b := by cases b <;> rfl
theorem pa_ne {a b : Nat} (h : a ≠ b) (ha : a < 2 ^ 31) (hb : b < 2 ^ 31) : ¬ nI a = nI b := fun e => h ((nI_eq ha hb).mp e)
theorem pa_uu {a : Nat → Int32} {j : Nat} : upd a j (a j) = a := by
  funext i
  unfold upd
  by_cases h : i = j
  · rw [if_pos h, h]
  · rw [if_neg h]
theorem pa_u2 {a : Nat → Int32} {j : Nat} {x y : Int32} : upd (upd a j x) j y = upd a j y := by
  funext i
  unfold upd
  by_cases h : i = j
  · rw [if_pos h, if_pos h]
  · rw [if_neg h, if_neg h, if_neg h]
theorem pa_um {a : Nat → Int32} {j : Nat} {x : Int32} (h : a j = x) : upd a j x = a := by rw [← h, pa_uu]
end
section
/-! pure steps -/
def pa_snd (C : Nat) (a : Nat → Int32) (j : Nat) : Nat → Int32 := if nI C ≤ a j then a else upd a j (a j + 1)
def pa_sd (C : Nat) (ix : Nat → Nat) (P : Nat → Bool) (a : Nat → Int32) : Nat → (Nat → Int32)
  | 0 => a
  | n + 1 => if P (n + 1) = true then pa_snd C (pa_sd C ix P a n) (ix (n + 1)) else pa_sd C ix P a n
def pa_hd (fa : Nat → Int32) (s : Nat) (a : Nat → Int32) : Nat → (Nat → Int32)
  | 0 => a
  | n + 1 => upd (pa_hd fa s a n) (s * 8 + (fa (s * 8 + n)).toNatClampNeg) 0
def pa_lfa (fa fc : Nat → Int32) (s t : Nat) : Nat → Int32 := if 8 ≤ fc s then fa else upd fa (s * 8 + (fc s).toNatClampNeg) (nI t)
def pa_lfc (fc : Nat → Int32) (s : Nat) : Nat → Int32 := if 8 ≤ fc s then fc else upd fc s (fc s + 1)
def pa_cp (a b : Nat → Int32) (base : Nat) : Nat → (Nat → Int32)
  | 0 => a
  | n + 1 => upd (pa_cp a b base n) (base + n) (b (base + n))
def pa_ins (a b w : Nat → Int32) (s c : Nat) : Nat → (Nat → Int32)
  | 0 => a
  | n + 1 => if bt (w c) n = true then upd (pa_ins a b w s c n) (s * 8 + n) (b (c * 8 + n)) else pa_ins a b w s c n
section
variable {S K T C : Nat} {up en me ye re ac rM wM sv sp sS ss cv fa fc de fl : Nat → Int32}
theorem xw_send {post : SX → Prop} (k s t : Nat) (hk : k < 8) (hs : s < 5) (ht : t < 8)
    (h : post (nI S, nI K, nI T, nI C, up, en, me, ye, re, ac, rM, wM, sv, sp, sS, ss, cv, fa, fc, de, pa_snd C fl (k * 40 + s * 8 + t))) : wpX_send post (nI S, nI K, nI T, nI C, up, en, me, ye, re, ac, rM, wM, sv, sp, sS, ss, cv, fa, fc, de, fl) (nI k) (nI t) (nI s) := by
  have hb : k * 40 + s * 8 + t < 320 := by omega
  refine nm_r (pa_fx k s t) ?_
  rw [nI_clamp (show k * 40 + s * 8 + t < 2 ^ 31 by omega)]
  refine ⟨vp_in_nI hb (by decide), ?_⟩
  by_cases hc : nI C ≤ fl (k * 40 + s * 8 + t)
  · rw [pa_snd, if_pos hc] at h
    exact br_t hc h
  · rw [pa_snd, if_neg hc] at h
    exact br_f hc ⟨vp_in_nI hb (by decide), vp_in_nI hb (by decide), nm_e h⟩
theorem xw_sendLoop {post : SX → Prop} {m : Int32} (k t : Nat) (hk : k < 8) (ht : t < 8) (hS : S ≤ 4)
    (h : post (nI S, nI K, nI T, nI C, up, en, me, ye, re, ac, rM, wM, sv, sp, sS, ss, cv, fa, fc, de, pa_sd C (fun s => k * 40 + s * 8 + t) (bt m) fl S)) :
    ∀ d i n : Nat, i + d = S → d < n → wX_sendToSet_3 post (nI k) (nI t) m n (nI (i + 1)) (nI S) (nI K) (nI T) (nI C) up en me ye re ac rM wM sv sp sS ss cv fa fc de (pa_sd C (fun s => k * 40 + s * 8 + t) (bt m) fl i) := by
  intro d
  induction d with
  | zero =>
    intro i n hi hn
    obtain ⟨n, rfl⟩ : ∃ q, n = q + 1 := ⟨n - 1, by omega⟩
    have e : i = S := by omega
    subst e
    exact br_t (nI_lt (by omega) (by omega)) h
  | succ d ih =>
    intro i n hi hn
    obtain ⟨n, rfl⟩ : ∃ q, n = q + 1 := ⟨n - 1, by omega⟩
    have key := ih (i + 1) n (by omega) (by omega)
    by_cases hb : bt m (i + 1) = true
    · have e : pa_sd C (fun s => k * 40 + s * 8 + t) (bt m) fl (i + 1) = pa_snd C (pa_sd C (fun s => k * 40 + s * 8 + t) (bt m) fl i) (k * 40 + (i + 1) * 8 + t) := if_pos hb
      rw [e] at key
      exact br_f (nI_nlt (by omega) (by omega)) (br_f ((pa_and1 m (by omega)).mpr hb) (xw_send k (i + 1) t hk (by omega) ht (nm_r (nI_1 _) key)))
    · have e : pa_sd C (fun s => k * 40 + s * 8 + t) (bt m) fl (i + 1) = pa_sd C (fun s => k * 40 + s * 8 + t) (bt m) fl i := if_neg hb
      rw [e] at key
      exact br_f (nI_nlt (by omega) (by omega)) (br_t ((pa_and0 m (by omega)).mpr (Bool.eq_false_iff.mpr hb)) (nm_r (nI_1 _) key))
theorem xw_sendToSet {post : SX → Prop} {m : Int32} (k t : Nat) (hk : k < 8) (ht : t < 8) (hS : S ≤ 4)
    (h : post (nI S, nI K, nI T, nI C, up, en, me, ye, re, ac, rM, wM, sv, sp, sS, ss, cv, fa, fc, de, pa_sd C (fun s => k * 40 + s * 8 + t) (bt m) fl S)) : wpX_sendToSet post (nI S, nI K, nI T, nI C, up, en, me, ye, re, ac, rM, wM, sv, sp, sS, ss, cv, fa, fc, de, fl) (nI k) (nI t) m :=
  Exists.intro (S + 1) (xw_sendLoop k t hk ht hS h S 0 (S + 1) (by omega) (by omega))
theorem xw_clear0 {post : SX → Prop} (t : Nat) (ht : t < 8)
    (h : post (nI S, nI K, nI T, nI C, up, upd en t 0, upd me t 0, upd ye t 0, upd re t 0, upd ac t 0, upd rM t 0, upd wM t 0, sv, sp, sS, ss, cv, fa, fc, de, fl)) :
    wpX_clearEntry post (nI S, nI K, nI T, nI C, up, en, me, ye, re, ac, rM, wM, sv, sp, sS, ss, cv, fa, fc, de, fl) 0 (nI t) := by
  have i40 : vp_in (nI t) 40 := vp_in_nI (by omega) (by decide)
  have i8 : vp_in (nI t) 8 := vp_in_nI ht (by decide)
  refine nm_r (pa_at0 t) ?_
  rw [nI_clamp (show t < 2 ^ 31 by omega)]
  exact ⟨i40, nm_e ⟨i40, nm_e ⟨i40, nm_e (br_t rfl ⟨i8, nm_e ⟨i8, nm_e ⟨i8, nm_e ⟨i8, nm_e h⟩⟩⟩⟩)⟩⟩⟩
theorem xw_clearS {post : SX → Prop} (s t : Nat) (h1 : 1 ≤ s) (hs : s < 5) (ht : t < 8)
    (h : post (nI S, nI K, nI T, nI C, up, upd en (s * 8 + t) 0, me, ye, re, ac, upd rM (s * 8 + t) 0, upd wM (s * 8 + t) 0, sv, sp, sS, ss, cv, fa, fc, de, fl)) :
    wpX_clearEntry post (nI S, nI K, nI T, nI C, up, en, me, ye, re, ac, rM, wM, sv, sp, sS, ss, cv, fa, fc, de, fl) (nI s) (nI t) := by
  have i40 : vp_in (nI (s * 8 + t)) 40 := vp_in_nI (by omega) (by decide)
  refine nm_r (pa_at s t) ?_
  rw [nI_clamp (show s * 8 + t < 2 ^ 31 by omega)]
  exact ⟨i40, nm_e ⟨i40, nm_e ⟨i40, nm_e (br_f (nI_ne0 h1 (by omega)) h)⟩⟩⟩
theorem xw_clearStable {post : SX → Prop} (s t : Nat) (hs : s < 5) (ht : t < 8)
    (h : post (nI S, nI K, nI T, nI C, up, en, me, ye, re, ac, rM, wM, sv, upd sp (s * 8 + t) 0, upd sS (s * 8 + t) 0, ss, cv, fa, fc, de, fl)) : wpX_clearStable post (nI S, nI K, nI T, nI C, up, en, me, ye, re, ac, rM, wM, sv, sp, sS, ss, cv, fa, fc, de, fl) (nI s) (nI t) := by
  have i40 : vp_in (nI (s * 8 + t)) 40 := vp_in_nI (by omega) (by decide)
  refine nm_r (pa_at s t) ?_
  rw [nI_clamp (show s * 8 + t < 2 ^ 31 by omega)]
  exact ⟨i40, nm_e ⟨i40, nm_e h⟩⟩
theorem xw_mfsLoop {post : SX → Prop} (s m : Nat) (hs : s < 5) (hm : m ≤ 8) (hfa : ∀ j, j < 40 → ∃ g, g < 8 ∧ fa j = nI g)
    (h : post (nI S, nI K, nI T, nI C, up, en, me, ye, re, ac, rM, wM, sv, pa_hd fa s sp m, pa_hd fa s sS m, ss, cv, fa, fc, de, fl)) :
    ∀ d i n : Nat, i + d = m → d < n → wX_makeFactsStable_2 post (nI s) (nI m) n (nI i) (nI S) (nI K) (nI T) (nI C) up en me ye re ac rM wM sv (pa_hd fa s sp i) (pa_hd fa s sS i) ss cv fa fc de fl := by
  intro d
  induction d with
  | zero =>
    intro i n hi hn
    obtain ⟨n, rfl⟩ : ∃ q, n = q + 1 := ⟨n - 1, by omega⟩
    have e : i = m := by omega
    subst e
    exact br_t (nI_le (Nat.le_refl _) (by omega)) h
  | succ d ih =>
    intro i n hi hn
    obtain ⟨n, rfl⟩ : ∃ q, n = q + 1 := ⟨n - 1, by omega⟩
    have key := ih (i + 1) n (by omega) (by omega)
    obtain ⟨g, hg, eg⟩ := hfa (s * 8 + i) (by omega)
    have e1 : ∀ a, pa_hd fa s a (i + 1) = upd (pa_hd fa s a i) (s * 8 + g) 0 := by
      intro a
      show upd (pa_hd fa s a i) (s * 8 + (fa (s * 8 + i)).toNatClampNeg) 0 = _
      rw [eg, nI_clamp (by omega)]
    rw [e1, e1] at key
    refine br_f (nI_ge (by omega) (by omega)) (br_f (nI_ge (b := 8) (by omega) (by decide)) ?_)
    rw [pa_at, nI_clamp (show s * 8 + i < 2 ^ 31 by omega)]
    exact ⟨vp_in_nI (by omega) (by decide), nm_r eg (xw_clearStable s g hs hg (nm_r (nI_1 _) key))⟩
theorem xw_mfs {post : SX → Prop} (s m : Nat) (hs : s < 5) (hm : m ≤ 8) (hfa : ∀ j, j < 40 → ∃ g, g < 8 ∧ fa j = nI g)
    (h : post (nI S, nI K, nI T, nI C, up, en, me, ye, re, ac, rM, wM, sv, pa_hd fa s sp m, pa_hd fa s sS m, ss, cv, fa, fc, de, fl)) : wpX_makeFactsStable post (nI S, nI K, nI T, nI C, up, en, me, ye, re, ac, rM, wM, sv, sp, sS, ss, cv, fa, fc, de, fl) (nI s) (nI m) :=
  Exists.intro (m + 1) (xw_mfsLoop s m hs hm hfa h m 0 (m + 1) (by omega) (by omega))
theorem xw_force {post : SX → Prop} (s m : Nat) (hs : s < 5) (hm : m ≤ 8) (hfa : ∀ j, j < 40 → ∃ g, g < 8 ∧ fa j = nI g) (hc : fc s = nI m)
    (h : post (nI S, nI K, nI T, nI C, up, en, me, ye, re, ac, rM, wM, sv, pa_hd fa s sp m, pa_hd fa s sS m, ss, cv, fa, upd fc s 0, de, fl)) : wpX_force post (nI S, nI K, nI T, nI C, up, en, me, ye, re, ac, rM, wM, sv, sp, sS, ss, cv, fa, fc, de, fl) (nI s) := by
  have i5 : vp_in (nI s) 5 := vp_in_nI hs (by decide)
  refine And.intro i5 ?_
  rw [nI_clamp (show s < 2 ^ 31 by omega), hc]
  exact xw_mfs s m hs hm hfa ⟨i5, nm_e h⟩
theorem xw_listFact {post : SX → Prop} (s t n : Nat) (hs : s < 5) (hn : n ≤ 8) (hc : fc s = nI n)
    (h : post (nI S, nI K, nI T, nI C, up, en, me, ye, re, ac, rM, wM, sv, sp, sS, ss, cv, pa_lfa fa fc s t, pa_lfc fc s, de, fl)) : wpX_listFact post (nI S, nI K, nI T, nI C, up, en, me, ye, re, ac, rM, wM, sv, sp, sS, ss, cv, fa, fc, de, fl) (nI s) (nI t) := by
  have i5 : vp_in (nI s) 5 := vp_in_nI hs (by decide)
  refine And.intro i5 ?_
  rw [nI_clamp (show s < 2 ^ 31 by omega)]
  by_cases h8 : n = 8
  · have h8' : (8 : Int32) ≤ fc s := by rw [hc, h8]; decide
    rw [pa_lfa, pa_lfc, if_pos h8', if_pos h8'] at h
    exact nm_e (br_t h8' h)
  · have h8' : ¬ (8 : Int32) ≤ fc s := by rw [hc]; exact nI_ge (b := 8) (by omega) (by decide)
    rw [pa_lfa, pa_lfc, if_neg h8', if_neg h8', hc, nI_clamp (show n < 2 ^ 31 by omega)] at h
    rw [hc] at h8' ⊢
    refine nm_e (br_f h8' ?_)
    rw [pa_at, nI_clamp (show s * 8 + n < 2 ^ 31 by omega)]
    exact ⟨vp_in_nI (by omega) (by decide), nm_e ⟨i5, nm_e h⟩⟩
theorem xw_missing {post : Int32 → Prop} (t : Nat) (ht : t < 8) (h : post (me t &&& ((ye t ||| re t) ^^^ (-1)))) : wpX_missingVotes post (nI S, nI K, nI T, nI C, up, en, me, ye, re, ac, rM, wM, sv, sp, sS, ss, cv, fa, fc, de, fl) (nI t) := by
  have i8 : vp_in (nI t) 8 := vp_in_nI ht (by decide)
  refine And.intro i8 (And.intro i8 (And.intro i8 ?_))
  rw [nI_clamp (show t < 2 ^ 31 by omega)]
  exact h
end
end
section
/-! the component's stores -/
section
variable {S K T C : Nat} {up en me ye re ac rM wM sv sp sS ss cv fa fc de fl : Nat → Int32}
theorem xw_prepLoop {post : SX → Prop} (c : Nat) (hc : c < 40) (hK : K ≤ 8)
    (h : post (nI S, nI K, nI T, nI C, up, en, me, ye, re, ac, rM, wM, sv, sp, sS, pa_cp ss sv (c * 8) K, cv, fa, fc, de, fl)) :
    ∀ d i n : Nat, i + d = K → d < n → wX_prepare_48 post (nI c) (nI S) (nI K) (nI T) (nI C) n (nI i) up en me ye re ac rM wM sv sp sS (pa_cp ss sv (c * 8) i) cv fa fc de fl := by
  intro d
  induction d with
  | zero =>
    intro i n hi hn
    obtain ⟨n, rfl⟩ : ∃ q, n = q + 1 := ⟨n - 1, by omega⟩
    have e : i = K := by omega
    subst e
    exact br_t (nI_le (Nat.le_refl _) (by omega)) h
  | succ d ih =>
    intro i n hi hn
    obtain ⟨n, rfl⟩ : ∃ q, n = q + 1 := ⟨n - 1, by omega⟩
    have key := ih (i + 1) n (by omega) (by omega)
    refine br_f (nI_ge (by omega) (by omega)) ?_
    rw [pa_at, nI_clamp (show c * 8 + i < 2 ^ 31 by omega)]
    exact ⟨vp_in_nI (by omega) (by decide), vp_in_nI (by omega) (by decide), nm_e (nm_r (nI_1 _) key)⟩
theorem xw_prepare {post : SX → Prop} (s t m : Nat) (hs : s < 5) (ht : t < 8) (hK : K ≤ 8) (hm : m ≤ 8) (hfa : ∀ j, j < 40 → ∃ g, g < 8 ∧ fa j = nI g) (hc : fc s = nI m)
    (h : post (nI S, nI K, nI T, nI C, up, upd en (s * 8 + t) 3, me, ye, re, ac, upd rM (s * 8 + t) 0, wM, sv, upd (pa_hd fa s sp m) (s * 8 + t) 3, upd (pa_hd fa s sS m) (s * 8 + t) (wM (s * 8 + t)), pa_cp ss sv ((s * 8 + t) * 8) K, cv, fa, upd fc s 0, de, fl)) :
    wpX_prepare post (nI S, nI K, nI T, nI C, up, en, me, ye, re, ac, rM, wM, sv, sp, sS, ss, cv, fa, fc, de, fl) (nI t) (nI s) := by
  have i40 : vp_in (nI (s * 8 + t)) 40 := vp_in_nI (by omega) (by decide)
  refine nm_r (pa_at s t) ?_
  rw [nI_clamp (show s * 8 + t < 2 ^ 31 by omega)]
  refine ⟨i40, nm_e ⟨i40, nm_e (xw_force s m hs hm hfa hc ?_)⟩⟩
  exact ⟨i40, nm_e ⟨i40, i40, nm_e ⟨K + 1, xw_prepLoop (s * 8 + t) (by omega) hK h K 0 (K + 1) (by omega) (by omega)⟩⟩⟩
theorem xw_rp0 {post : SX → Prop} (s t : Nat) (hs : s < 5) (ht : t < 8) (he : en (s * 8 + t) = 0)
    (h : post (nI S, nI K, nI T, nI C, up, en, me, ye, re, ac, rM, wM, sv, sp, sS, ss, cv, fa, fc, de, pa_snd C fl (2 * 40 + s * 8 + t))) : wpX_receivePrepare post (nI S, nI K, nI T, nI C, up, en, me, ye, re, ac, rM, wM, sv, sp, sS, ss, cv, fa, fc, de, fl) (nI t) (nI s) := by
  have i40 : vp_in (nI (s * 8 + t)) 40 := vp_in_nI (by omega) (by decide)
  refine nm_r (pa_at s t) ?_
  rw [nI_clamp (show s * 8 + t < 2 ^ 31 by omega)]
  exact ⟨i40, br_t he (xw_send 2 s t (by decide) hs ht h)⟩
theorem xw_rp3 {post : SX → Prop} (s t : Nat) (hs : s < 5) (ht : t < 8) (he : en (s * 8 + t) = 3)
    (h : post (nI S, nI K, nI T, nI C, up, en, me, ye, re, ac, rM, wM, sv, sp, sS, ss, cv, fa, fc, de, pa_snd C fl (1 * 40 + s * 8 + t))) : wpX_receivePrepare post (nI S, nI K, nI T, nI C, up, en, me, ye, re, ac, rM, wM, sv, sp, sS, ss, cv, fa, fc, de, fl) (nI t) (nI s) := by
  have i40 : vp_in (nI (s * 8 + t)) 40 := vp_in_nI (by omega) (by decide)
  refine nm_r (pa_at s t) ?_
  rw [nI_clamp (show s * 8 + t < 2 ^ 31 by omega)]
  exact ⟨i40, br_f (by rw [he]; decide) ⟨i40, br_t he (xw_send 1 s t (by decide) hs ht h)⟩⟩
theorem xw_rpR {post : SX → Prop} (s t : Nat) (h1 : 1 ≤ s) (hs : s < 5) (ht : t < 8) (he : en (s * 8 + t) = 1) (hw : wM (s * 8 + t) = 0)
    (h : post (nI S, nI K, nI T, nI C, up, upd en (s * 8 + t) 0, me, ye, re, ac, upd rM (s * 8 + t) 0, upd wM (s * 8 + t) 0, sv, sp, sS, ss, cv, fa, fc, de, pa_snd C fl (3 * 40 + s * 8 + t))) : wpX_receivePrepare post (nI S, nI K, nI T, nI C, up, en, me, ye, re, ac, rM, wM, sv, sp, sS, ss, cv, fa, fc, de, fl) (nI t) (nI s) := by
  have i40 : vp_in (nI (s * 8 + t)) 40 := vp_in_nI (by omega) (by decide)
  refine nm_r (pa_at s t) ?_
  rw [nI_clamp (show s * 8 + t < 2 ^ 31 by omega)]
  exact ⟨i40, br_f (by rw [he]; decide) ⟨i40, br_f (by rw [he]; decide) ⟨i40, br_t hw (xw_clearS s t h1 hs ht (xw_send 3 s t (by decide) hs ht h))⟩⟩⟩
theorem xw_rpW {post : SX → Prop} (s t m : Nat) (hs : s < 5) (ht : t < 8) (hK : K ≤ 8) (hm : m ≤ 8) (hfa : ∀ j, j < 40 → ∃ g, g < 8 ∧ fa j = nI g) (hc : fc s = nI m) (he : en (s * 8 + t) = 1) (hw : ¬ wM (s * 8 + t) = 0)
    (h : post (nI S, nI K, nI T, nI C, up, upd en (s * 8 + t) 3, me, ye, re, ac, upd rM (s * 8 + t) 0, wM, sv, upd (pa_hd fa s sp m) (s * 8 + t) 3, upd (pa_hd fa s sS m) (s * 8 + t) (wM (s * 8 + t)), pa_cp ss sv ((s * 8 + t) * 8) K, cv, fa, upd fc s 0, de, pa_snd C fl (1 * 40 + s * 8 + t))) : wpX_receivePrepare post (nI S, nI K, nI T, nI C, up, en, me, ye, re, ac, rM, wM, sv, sp, sS, ss, cv, fa, fc, de, fl) (nI t) (nI s) := by
  have i40 : vp_in (nI (s * 8 + t)) 40 := vp_in_nI (by omega) (by decide)
  refine nm_r (pa_at s t) ?_
  rw [nI_clamp (show s * 8 + t < 2 ^ 31 by omega)]
  exact ⟨i40, br_f (by rw [he]; decide) ⟨i40, br_f (by rw [he]; decide) ⟨i40, br_f hw (xw_prepare s t m hs ht hK hm hfa hc (xw_send 1 s t (by decide) hs ht h))⟩⟩⟩
theorem xw_rcLoop {post : SX → Prop} (s t m : Nat) (h1 : 1 ≤ s) (hs : s < 5) (ht : t < 8) (hK : K ≤ 8) (hm : m ≤ 8) (hfa : ∀ j, j < 40 → ∃ g, g < 8 ∧ fa j = nI g) (hc : fc s = nI m)
    (h : post (nI S, nI K, nI T, nI C, up, upd en (s * 8 + t) 0, me, ye, re, ac, upd rM (s * 8 + t) 0, upd wM (s * 8 + t) 0, sv, pa_hd fa s (upd sp (s * 8 + t) 0) m, pa_hd fa s (upd sS (s * 8 + t) 0) m, ss, pa_ins cv sv wM s (s * 8 + t) K, fa, upd fc s 0, upd de (s * 8 + t) 4, pa_snd C fl (7 * 40 + s * 8 + t))) :
    ∀ d i n : Nat, i + d = K → d < n → wX_receiveCommit_20 post (nI t) (nI s) (nI (s * 8 + t)) (nI S) (nI K) (nI T) (nI C) n (nI i) up en me ye re ac rM wM sv sp sS ss (pa_ins cv sv wM s (s * 8 + t) i) fa fc de fl := by
  have i40 : vp_in (nI (s * 8 + t)) 40 := vp_in_nI (by omega) (by decide)
  intro d
  induction d with
  | zero =>
    intro i n hi hn
    obtain ⟨n, rfl⟩ : ∃ q, n = q + 1 := ⟨n - 1, by omega⟩
    have e : i = K := by omega
    subst e
    refine br_t (nI_le (Nat.le_refl _) (by omega)) ?_
    rw [nI_clamp (show s * 8 + t < 2 ^ 31 by omega)]
    exact ⟨i40, nm_e (xw_clearS s t h1 hs ht (xw_clearStable s t hs ht (xw_force s m hs hm hfa hc (xw_send 7 s t (by decide) hs ht h))))⟩
  | succ d ih =>
    intro i n hi hn
    obtain ⟨n, rfl⟩ : ∃ q, n = q + 1 := ⟨n - 1, by omega⟩
    have key := ih (i + 1) n (by omega) (by omega)
    refine br_f (nI_ge (by omega) (by omega)) ?_
    rw [pa_at, pa_at, nI_clamp (show s * 8 + t < 2 ^ 31 by omega), nI_clamp (show (s * 8 + t) * 8 + i < 2 ^ 31 by omega), nI_clamp (show s * 8 + i < 2 ^ 31 by omega)]
    by_cases hb : bt (wM (s * 8 + t)) i = true
    · have e : pa_ins cv sv wM s (s * 8 + t) (i + 1) = upd (pa_ins cv sv wM s (s * 8 + t) i) (s * 8 + i) (sv ((s * 8 + t) * 8 + i)) := if_pos hb
      rw [e] at key
      exact ⟨i40, br_f ((pa_and1 _ (by omega)).mpr hb) ⟨vp_in_nI (by omega) (by decide), vp_in_nI (by omega) (by decide), nm_e (nm_r (nI_1 _) key)⟩⟩
    · have e : pa_ins cv sv wM s (s * 8 + t) (i + 1) = pa_ins cv sv wM s (s * 8 + t) i := if_neg hb
      rw [e] at key
      exact ⟨i40, br_t ((pa_and0 _ (by omega)).mpr (Bool.eq_false_iff.mpr hb)) (nm_r (nI_1 _) key)⟩
theorem xw_rc3 {post : SX → Prop} (s t m : Nat) (h1 : 1 ≤ s) (hs : s < 5) (ht : t < 8) (hK : K ≤ 8) (hm : m ≤ 8) (hfa : ∀ j, j < 40 → ∃ g, g < 8 ∧ fa j = nI g) (hc : fc s = nI m) (he : en (s * 8 + t) = 3)
    (h : post (nI S, nI K, nI T, nI C, up, upd en (s * 8 + t) 0, me, ye, re, ac, upd rM (s * 8 + t) 0, upd wM (s * 8 + t) 0, sv, pa_hd fa s (upd sp (s * 8 + t) 0) m, pa_hd fa s (upd sS (s * 8 + t) 0) m, ss, pa_ins cv sv wM s (s * 8 + t) K, fa, upd fc s 0, upd de (s * 8 + t) 4, pa_snd C fl (7 * 40 + s * 8 + t))) :
    wpX_receiveCommit post (nI S, nI K, nI T, nI C, up, en, me, ye, re, ac, rM, wM, sv, sp, sS, ss, cv, fa, fc, de, fl) (nI t) (nI s) := by
  have i40 : vp_in (nI (s * 8 + t)) 40 := vp_in_nI (by omega) (by decide)
  refine nm_r (pa_at s t) ?_
  rw [nI_clamp (show s * 8 + t < 2 ^ 31 by omega)]
  exact ⟨i40, br_t he ⟨K + 1, xw_rcLoop s t m h1 hs ht hK hm hfa hc h K 0 (K + 1) (by omega) (by omega)⟩⟩
theorem xw_rcN {post : SX → Prop} (s t : Nat) (hs : s < 5) (ht : t < 8) (he : ¬ en (s * 8 + t) = 3)
    (h : post (nI S, nI K, nI T, nI C, up, en, me, ye, re, ac, rM, wM, sv, sp, sS, ss, cv, fa, fc, de, pa_snd C fl (7 * 40 + s * 8 + t))) : wpX_receiveCommit post (nI S, nI K, nI T, nI C, up, en, me, ye, re, ac, rM, wM, sv, sp, sS, ss, cv, fa, fc, de, fl) (nI t) (nI s) := by
  have i40 : vp_in (nI (s * 8 + t)) 40 := vp_in_nI (by omega) (by decide)
  refine nm_r (pa_at s t) ?_
  rw [nI_clamp (show s * 8 + t < 2 ^ 31 by omega)]
  exact ⟨i40, br_f he (xw_send 7 s t (by decide) hs ht h)⟩
theorem xw_ra0 {post : SX → Prop} (s t : Nat) (hs : s < 5) (ht : t < 8) (he : en (s * 8 + t) = 0)
    (h : post (nI S, nI K, nI T, nI C, up, en, me, ye, re, ac, rM, wM, sv, sp, sS, ss, cv, fa, fc, de, fl)) : wpX_receiveAbort post (nI S, nI K, nI T, nI C, up, en, me, ye, re, ac, rM, wM, sv, sp, sS, ss, cv, fa, fc, de, fl) (nI t) (nI s) := by
  have i40 : vp_in (nI (s * 8 + t)) 40 := vp_in_nI (by omega) (by decide)
  refine nm_r (pa_at s t) ?_
  rw [nI_clamp (show s * 8 + t < 2 ^ 31 by omega)]
  exact ⟨i40, nm_e (br_t he h)⟩
theorem xw_ra1 {post : SX → Prop} (s t : Nat) (h1 : 1 ≤ s) (hs : s < 5) (ht : t < 8) (he : en (s * 8 + t) = 1)
    (h : post (nI S, nI K, nI T, nI C, up, upd en (s * 8 + t) 0, me, ye, re, ac, upd rM (s * 8 + t) 0, upd wM (s * 8 + t) 0, sv, sp, sS, ss, cv, fa, fc, upd de (s * 8 + t) 5, fl)) : wpX_receiveAbort post (nI S, nI K, nI T, nI C, up, en, me, ye, re, ac, rM, wM, sv, sp, sS, ss, cv, fa, fc, de, fl) (nI t) (nI s) := by
  have i40 : vp_in (nI (s * 8 + t)) 40 := vp_in_nI (by omega) (by decide)
  refine nm_r (pa_at s t) ?_
  rw [nI_clamp (show s * 8 + t < 2 ^ 31 by omega)]
  exact ⟨i40, nm_r he (br_f (by decide) ⟨i40, nm_e (xw_clearS s t h1 hs ht (br_f (by decide) h))⟩)⟩
theorem xw_ra3 {post : SX → Prop} (s t n : Nat) (h1 : 1 ≤ s) (hs : s < 5) (ht : t < 8) (hn : n ≤ 8) (hc : fc s = nI n) (he : en (s * 8 + t) = 3)
    (h : post (nI S, nI K, nI T, nI C, up, upd en (s * 8 + t) 0, me, ye, re, ac, upd rM (s * 8 + t) 0, upd wM (s * 8 + t) 0, sv, sp, sS, ss, cv, pa_lfa fa fc s t, pa_lfc fc s, upd de (s * 8 + t) 5, fl)) : wpX_receiveAbort post (nI S, nI K, nI T, nI C, up, en, me, ye, re, ac, rM, wM, sv, sp, sS, ss, cv, fa, fc, de, fl) (nI t) (nI s) := by
  have i40 : vp_in (nI (s * 8 + t)) 40 := vp_in_nI (by omega) (by decide)
  refine nm_r (pa_at s t) ?_
  rw [nI_clamp (show s * 8 + t < 2 ^ 31 by omega)]
  exact ⟨i40, nm_r he (br_f (by decide) ⟨i40, nm_e (xw_clearS s t h1 hs ht (br_t rfl (xw_listFact s t n hs hn hc h)))⟩)⟩
theorem xw_st3 {post : SX → Prop} (s t : Nat) (hs : s < 5) (ht : t < 8) (he : en (s * 8 + t) = 3)
    (h : post (nI S, nI K, nI T, nI C, up, en, me, ye, re, ac, rM, wM, sv, sp, sS, ss, cv, fa, fc, de, pa_snd C fl (4 * 40 + s * 8 + t))) : wpX_storeTimer post (nI S, nI K, nI T, nI C, up, en, me, ye, re, ac, rM, wM, sv, sp, sS, ss, cv, fa, fc, de, fl) (nI t) (nI s) := by
  have i40 : vp_in (nI (s * 8 + t)) 40 := vp_in_nI (by omega) (by decide)
  refine nm_r (pa_at s t) ?_
  rw [nI_clamp (show s * 8 + t < 2 ^ 31 by omega)]
  exact ⟨i40, br_t he (xw_send 4 s t (by decide) hs ht h)⟩
theorem xw_stN {post : SX → Prop} (s t : Nat) (h1 : 1 ≤ s) (hs : s < 5) (ht : t < 8) (he : ¬ en (s * 8 + t) = 3)
    (h : post (nI S, nI K, nI T, nI C, up, upd en (s * 8 + t) 0, me, ye, re, ac, upd rM (s * 8 + t) 0, upd wM (s * 8 + t) 0, sv, sp, sS, ss, cv, fa, fc, upd de (s * 8 + t) 5, fl)) : wpX_storeTimer post (nI S, nI K, nI T, nI C, up, en, me, ye, re, ac, rM, wM, sv, sp, sS, ss, cv, fa, fc, de, fl) (nI t) (nI s) := by
  have i40 : vp_in (nI (s * 8 + t)) 40 := vp_in_nI (by omega) (by decide)
  refine nm_r (pa_at s t) ?_
  rw [nI_clamp (show s * 8 + t < 2 ^ 31 by omega)]
  exact ⟨i40, br_f he ⟨i40, nm_e (xw_clearS s t h1 hs ht h)⟩⟩
theorem xw_rpLoop {post : SX → Prop} (s t c : Nat) (hs : s < 5) (ht : t < 8) (hc : c < 40) (hK : K ≤ 8)
    (h : post (nI S, nI K, nI T, nI C, up, en, me, ye, re, ac, rM, wM, pa_cp sv ss (c * 8) K, sp, sS, ss, cv, fa, fc, de, pa_snd C fl (4 * 40 + s * 8 + t))) :
    ∀ d i n : Nat, i + d = K → d < n → wX_recoverPrepared_29 post (nI t) (nI s) (nI c) (nI S) (nI K) (nI T) (nI C) n (nI i) up en me ye re ac rM wM (pa_cp sv ss (c * 8) i) sp sS ss cv fa fc de fl := by
  intro d
  induction d with
  | zero =>
    intro i n hi hn
    obtain ⟨n, rfl⟩ : ∃ q, n = q + 1 := ⟨n - 1, by omega⟩
    have e : i = K := by omega
    subst e
    exact br_t (nI_le (Nat.le_refl _) (by omega)) (xw_send 4 s t (by decide) hs ht h)
  | succ d ih =>
    intro i n hi hn
    obtain ⟨n, rfl⟩ : ∃ q, n = q + 1 := ⟨n - 1, by omega⟩
    have key := ih (i + 1) n (by omega) (by omega)
    refine br_f (nI_ge (by omega) (by omega)) ?_
    rw [pa_at, nI_clamp (show c * 8 + i < 2 ^ 31 by omega)]
    exact ⟨vp_in_nI (by omega) (by decide), vp_in_nI (by omega) (by decide), nm_e (nm_r (nI_1 _) key)⟩
theorem xw_recP {post : SX → Prop} (s t : Nat) (hs : s < 5) (ht : t < 8) (hK : K ≤ 8)
    (h : post (nI S, nI K, nI T, nI C, up, upd en (s * 8 + t) 3, me, ye, re, ac, rM, upd wM (s * 8 + t) (sS (s * 8 + t)), pa_cp sv ss ((s * 8 + t) * 8) K, sp, sS, ss, cv, fa, fc, de, pa_snd C fl (4 * 40 + s * 8 + t))) : wpX_recoverPrepared post (nI S, nI K, nI T, nI C, up, en, me, ye, re, ac, rM, wM, sv, sp, sS, ss, cv, fa, fc, de, fl) (nI t) (nI s) := by
  have i40 : vp_in (nI (s * 8 + t)) 40 := vp_in_nI (by omega) (by decide)
  refine nm_r (pa_at s t) ?_
  rw [nI_clamp (show s * 8 + t < 2 ^ 31 by omega)]
  exact ⟨i40, nm_e ⟨i40, i40, nm_e ⟨K + 1, xw_rpLoop s t (s * 8 + t) hs ht (by omega) hK h K 0 (K + 1) (by omega) (by omega)⟩⟩⟩
end
end
section
/-! the component's coordinator -/
def pa_aset (m r : Int32) (x : Nat) : Int32 := (m &&& (r ^^^ (-1))) &&& (((1 : Int32) <<< (nI x &&& 31)) ^^^ (-1))
section
variable {S K T C : Nat} {up en me ye re ac rM wM sv sp sS ss cv fa fc de fl : Nat → Int32}
theorem xw_ai0 {post : SX → Prop} (s t : Nat) (hs : s < 5) (ht : t < 8) (he : en t = 0)
    (h : post (nI S, nI K, nI T, nI C, up, en, me, ye, re, ac, rM, wM, sv, sp, sS, ss, cv, fa, fc, de, pa_snd C fl (6 * 40 + s * 8 + t))) : wpX_answerInquiry post (nI S, nI K, nI T, nI C, up, en, me, ye, re, ac, rM, wM, sv, sp, sS, ss, cv, fa, fc, de, fl) (nI t) (nI s) := by
  have i40 : vp_in (nI t) 40 := vp_in_nI (by omega) (by decide)
  refine And.intro i40 ?_
  rw [nI_clamp (show t < 2 ^ 31 by omega)]
  exact br_t he (xw_send 6 s t (by decide) hs ht h)
theorem xw_ai4 {post : SX → Prop} (s t : Nat) (hs : s < 5) (ht : t < 8) (he : en t = 4)
    (h : post (nI S, nI K, nI T, nI C, up, en, me, ye, re, ac, rM, wM, sv, sp, sS, ss, cv, fa, fc, de, pa_snd C fl (5 * 40 + s * 8 + t))) : wpX_answerInquiry post (nI S, nI K, nI T, nI C, up, en, me, ye, re, ac, rM, wM, sv, sp, sS, ss, cv, fa, fc, de, fl) (nI t) (nI s) := by
  have i40 : vp_in (nI t) 40 := vp_in_nI (by omega) (by decide)
  refine And.intro i40 ?_
  rw [nI_clamp (show t < 2 ^ 31 by omega)]
  exact br_f (by rw [he]; decide) ⟨i40, br_t he (xw_send 5 s t (by decide) hs ht h)⟩
theorem xw_aiN {post : SX → Prop} (s t : Nat) (ht : t < 8) (h0 : ¬ en t = 0) (h4 : ¬ en t = 4)
    (h : post (nI S, nI K, nI T, nI C, up, en, me, ye, re, ac, rM, wM, sv, sp, sS, ss, cv, fa, fc, de, fl)) : wpX_answerInquiry post (nI S, nI K, nI T, nI C, up, en, me, ye, re, ac, rM, wM, sv, sp, sS, ss, cv, fa, fc, de, fl) (nI t) (nI s) := by
  have i40 : vp_in (nI t) 40 := vp_in_nI (by omega) (by decide)
  refine And.intro i40 ?_
  rw [nI_clamp (show t < 2 ^ 31 by omega)]
  exact br_f h0 ⟨i40, br_f h4 h⟩
theorem xw_akN {post : SX → Prop} (s t : Nat) (ht : t < 8) (h4 : ¬ en t = 4)
    (h : post (nI S, nI K, nI T, nI C, up, en, me, ye, re, ac, rM, wM, sv, sp, sS, ss, cv, fa, fc, de, fl)) : wpX_receiveAck post (nI S, nI K, nI T, nI C, up, en, me, ye, re, ac, rM, wM, sv, sp, sS, ss, cv, fa, fc, de, fl) (nI t) (nI s) := by
  have i40 : vp_in (nI t) 40 := vp_in_nI (by omega) (by decide)
  refine nm_e (And.intro i40 ?_)
  rw [nI_clamp (show t < 2 ^ 31 by omega)]
  exact br_f h4 h
theorem xw_ak0 {post : SX → Prop} (s t : Nat) (hs : s < 5) (ht : t < 8) (h4 : en t = 4) (hb : (bt (me t) s && !bt (ac t) s) = false)
    (h : post (nI S, nI K, nI T, nI C, up, en, me, ye, re, ac, rM, wM, sv, sp, sS, ss, cv, fa, fc, de, fl)) : wpX_receiveAck post (nI S, nI K, nI T, nI C, up, en, me, ye, re, ac, rM, wM, sv, sp, sS, ss, cv, fa, fc, de, fl) (nI t) (nI s) := by
  have i40 : vp_in (nI t) 40 := vp_in_nI (by omega) (by decide)
  have i8 : vp_in (nI t) 8 := vp_in_nI ht (by decide)
  refine nm_e (And.intro i40 ?_)
  rw [nI_clamp (show t < 2 ^ 31 by omega)]
  exact br_t h4 ⟨i8, i8, br_t ((pa_and0 _ (by omega)).mpr (by rw [pa_ac]; exact hb)) h⟩
theorem xw_ak1 {post : SX → Prop} (s t : Nat) (hs : s < 5) (ht : t < 8) (h4 : en t = 4) (hb : (bt (me t) s && !bt (ac t) s) = true)
    (hn : ¬ (me t &&& ((ac t ||| ((1 : Int32) <<< (nI s &&& 31))) ^^^ (-1))) = 0)
    (h : post (nI S, nI K, nI T, nI C, up, en, me, ye, re, upd ac t (ac t ||| ((1 : Int32) <<< (nI s &&& 31))), rM, wM, sv, sp, sS, ss, cv, fa, fc, de, fl)) : wpX_receiveAck post (nI S, nI K, nI T, nI C, up, en, me, ye, re, ac, rM, wM, sv, sp, sS, ss, cv, fa, fc, de, fl) (nI t) (nI s) := by
  have i40 : vp_in (nI t) 40 := vp_in_nI (by omega) (by decide)
  have i8 : vp_in (nI t) 8 := vp_in_nI ht (by decide)
  refine nm_e (And.intro i40 ?_)
  rw [nI_clamp (show t < 2 ^ 31 by omega)]
  refine br_t h4 ⟨i8, i8, br_f ((pa_and1 _ (by omega)).mpr (by rw [pa_ac]; exact hb)) ⟨i8, i8, nm_e ⟨i8, i8, ?_⟩⟩⟩
  rw [pk_us]
  exact br_f hn h
theorem xw_ak2 {post : SX → Prop} (s t n : Nat) (hs : s < 5) (ht : t < 8) (hn8 : n ≤ 8) (hc : fc 0 = nI n) (h4 : en t = 4) (hb : (bt (me t) s && !bt (ac t) s) = true)
    (hn : (me t &&& ((ac t ||| ((1 : Int32) <<< (nI s &&& 31))) ^^^ (-1))) = 0)
    (h : post (nI S, nI K, nI T, nI C, up, upd en t 0, upd me t 0, upd ye t 0, upd re t 0, upd ac t 0, upd rM t 0, upd wM t 0, sv, sp, sS, ss, cv, pa_lfa fa fc 0 t, pa_lfc fc 0, de, fl)) : wpX_receiveAck post (nI S, nI K, nI T, nI C, up, en, me, ye, re, ac, rM, wM, sv, sp, sS, ss, cv, fa, fc, de, fl) (nI t) (nI s) := by
  have i40 : vp_in (nI t) 40 := vp_in_nI (by omega) (by decide)
  have i8 : vp_in (nI t) 8 := vp_in_nI ht (by decide)
  refine nm_e (And.intro i40 ?_)
  rw [nI_clamp (show t < 2 ^ 31 by omega)]
  refine br_t h4 ⟨i8, i8, br_f ((pa_and1 _ (by omega)).mpr (by rw [pa_ac]; exact hb)) ⟨i8, i8, nm_e ⟨i8, i8, ?_⟩⟩⟩
  rw [pk_us]
  refine br_t hn (xw_clear0 t ht ?_)
  rw [pa_u2]
  exact xw_listFact 0 t n (by decide) hn8 hc h
theorem xw_abort {post : SX → Prop} (t x : Nat) (hS : S ≤ 4) (ht : t < 8)
    (h : post (nI S, nI K, nI T, nI C, up, upd en t 0, upd me t 0, upd ye t 0, upd re t 0, upd ac t 0, upd rM t 0, upd wM t 0, sv, sp, sS, ss, cv, fa, fc, upd de t 5, pa_sd C (fun s => 6 * 40 + s * 8 + t) (bt (pa_aset (me t) (re t) x)) fl S)) :
    wpX_abortTransaction post (nI S, nI K, nI T, nI C, up, en, me, ye, re, ac, rM, wM, sv, sp, sS, ss, cv, fa, fc, de, fl) (nI t) (nI x) := by
  have i40 : vp_in (nI t) 40 := vp_in_nI (by omega) (by decide)
  have i8 : vp_in (nI t) 8 := vp_in_nI ht (by decide)
  refine And.intro i8 (And.intro i8 ?_)
  rw [nI_clamp (show t < 2 ^ 31 by omega)]
  exact nm_r (e' := pa_aset (me t) (re t) x) rfl ⟨i40, nm_e (xw_sendToSet 6 t (by decide) ht hS (xw_clear0 t ht h))⟩
theorem xw_recC {post : SX → Prop} (t : Nat) (q : Int32) (hS : S ≤ 4) (ht : t < 8) (hq : sS t = q)
    (h : post (nI S, nI K, nI T, nI C, up, upd en t 4, upd me t q, ye, re, upd ac t 0, rM, wM, sv, sp, sS, ss, cv, fa, fc, de, pa_sd C (fun s => 5 * 40 + s * 8 + t) (bt q) fl S)) :
    wpX_recoverCommitted post (nI S, nI K, nI T, nI C, up, en, me, ye, re, ac, rM, wM, sv, sp, sS, ss, cv, fa, fc, de, fl) (nI t) := by
  have i40 : vp_in (nI t) 40 := vp_in_nI (by omega) (by decide)
  have i8 : vp_in (nI t) 8 := vp_in_nI ht (by decide)
  refine And.intro i40 ?_
  rw [nI_clamp (show t < 2 ^ 31 by omega)]
  exact nm_r hq ⟨i40, nm_e ⟨i8, nm_e ⟨i8, nm_e (xw_sendToSet 5 t (by decide) ht hS h)⟩⟩⟩
theorem xw_dec0 {post : SX → Prop} (t : Nat) (ht : t < 8) (hy : ye t = 0)
    (h : post (nI S, nI K, nI T, nI C, up, upd en t 0, upd me t 0, upd ye t 0, upd re t 0, upd ac t 0, upd rM t 0, upd wM t 0, sv, sp, sS, ss, cv, fa, fc, upd de t 4, fl)) :
    wpX_decide post (nI S, nI K, nI T, nI C, up, en, me, ye, re, ac, rM, wM, sv, sp, sS, ss, cv, fa, fc, de, fl) (nI t) := by
  have i40 : vp_in (nI t) 40 := vp_in_nI (by omega) (by decide)
  have i8 : vp_in (nI t) 8 := vp_in_nI ht (by decide)
  refine And.intro i8 ?_
  rw [nI_clamp (show t < 2 ^ 31 by omega)]
  exact nm_r hy ⟨i40, nm_e (xw_clear0 t ht (br_t rfl h))⟩
theorem xw_dec1 {post : SX → Prop} (t m : Nat) (hS : S ≤ 4) (ht : t < 8) (hm : m ≤ 8) (hfa : ∀ j, j < 40 → ∃ g, g < 8 ∧ fa j = nI g) (hc : fc 0 = nI m) (hy : ¬ ye t = 0)
    (h : post (nI S, nI K, nI T, nI C, up, upd (upd en t 0) t 4, upd (upd me t 0) t (ye t), upd ye t 0, upd re t 0, upd (upd ac t 0) t 0, upd rM t 0, upd wM t 0, sv, upd (pa_hd fa 0 sp m) t 4, upd (pa_hd fa 0 sS m) t (ye t), ss, cv, fa, upd fc 0 0, upd de t 4, pa_sd C (fun s => 5 * 40 + s * 8 + t) (bt (ye t)) fl S)) :
    wpX_decide post (nI S, nI K, nI T, nI C, up, en, me, ye, re, ac, rM, wM, sv, sp, sS, ss, cv, fa, fc, de, fl) (nI t) := by
  have i40 : vp_in (nI t) 40 := vp_in_nI (by omega) (by decide)
  have i8 : vp_in (nI t) 8 := vp_in_nI ht (by decide)
  refine And.intro i8 ?_
  rw [nI_clamp (show t < 2 ^ 31 by omega)]
  exact nm_e ⟨i40, nm_e (xw_clear0 t ht (br_f hy (xw_force 0 m (by decide) hm hfa hc ⟨i40, nm_e ⟨i40, nm_e (xw_recC t (ye t) hS ht pk_us h)⟩⟩)))⟩
theorem xw_rv01 {post : SX → Prop} (s t : Nat) (hs : s < 5) (ht : t < 8) (he : en t = 0)
    (h : post (nI S, nI K, nI T, nI C, up, en, me, ye, re, ac, rM, wM, sv, sp, sS, ss, cv, fa, fc, de, pa_snd C fl (6 * 40 + s * 8 + t))) : wpX_receiveVote post (nI S, nI K, nI T, nI C, up, en, me, ye, re, ac, rM, wM, sv, sp, sS, ss, cv, fa, fc, de, fl) 1 (nI t) (nI s) := by
  have i40 : vp_in (nI t) 40 := vp_in_nI (by omega) (by decide)
  refine And.intro i40 ?_
  rw [nI_clamp (show t < 2 ^ 31 by omega)]
  exact br_t he (br_t rfl (xw_send 6 s t (by decide) hs ht h))
theorem xw_rv0N {post : SX → Prop} (s t : Nat) (k : Int32) (ht : t < 8) (hk : ¬ k = 1) (he : en t = 0)
    (h : post (nI S, nI K, nI T, nI C, up, en, me, ye, re, ac, rM, wM, sv, sp, sS, ss, cv, fa, fc, de, fl)) : wpX_receiveVote post (nI S, nI K, nI T, nI C, up, en, me, ye, re, ac, rM, wM, sv, sp, sS, ss, cv, fa, fc, de, fl) k (nI t) (nI s) := by
  have i40 : vp_in (nI t) 40 := vp_in_nI (by omega) (by decide)
  refine And.intro i40 ?_
  rw [nI_clamp (show t < 2 ^ 31 by omega)]
  exact br_t he (br_f hk h)
theorem xw_rvN {post : SX → Prop} (s t : Nat) (k : Int32) (ht : t < 8) (h0 : ¬ en t = 0) (h2 : ¬ en t = 2)
    (h : post (nI S, nI K, nI T, nI C, up, en, me, ye, re, ac, rM, wM, sv, sp, sS, ss, cv, fa, fc, de, fl)) : wpX_receiveVote post (nI S, nI K, nI T, nI C, up, en, me, ye, re, ac, rM, wM, sv, sp, sS, ss, cv, fa, fc, de, fl) k (nI t) (nI s) := by
  have i40 : vp_in (nI t) 40 := vp_in_nI (by omega) (by decide)
  refine And.intro i40 ?_
  rw [nI_clamp (show t < 2 ^ 31 by omega)]
  exact br_f h0 (nm_e (xw_missing t ht ⟨i40, br_f h2 h⟩))
theorem xw_rv2N {post : SX → Prop} (s t : Nat) (k : Int32) (hs : s < 5) (ht : t < 8) (h2 : en t = 2) (hb : bt (me t &&& ((ye t ||| re t) ^^^ (-1))) s = false)
    (h : post (nI S, nI K, nI T, nI C, up, en, me, ye, re, ac, rM, wM, sv, sp, sS, ss, cv, fa, fc, de, fl)) : wpX_receiveVote post (nI S, nI K, nI T, nI C, up, en, me, ye, re, ac, rM, wM, sv, sp, sS, ss, cv, fa, fc, de, fl) k (nI t) (nI s) := by
  have i40 : vp_in (nI t) 40 := vp_in_nI (by omega) (by decide)
  refine And.intro i40 ?_
  rw [nI_clamp (show t < 2 ^ 31 by omega)]
  exact br_f (by rw [h2]; decide) (nm_e (xw_missing t ht ⟨i40, br_t h2 (br_t ((pa_and0 _ (by omega)).mpr hb) h)⟩))
theorem xw_rvA {post : SX → Prop} (s t : Nat) (hS : S ≤ 4) (hs : s < 5) (ht : t < 8) (h2 : en t = 2) (hb : bt (me t &&& ((ye t ||| re t) ^^^ (-1))) s = true)
    (h : post (nI S, nI K, nI T, nI C, up, upd en t 0, upd me t 0, upd ye t 0, upd re t 0, upd ac t 0, upd rM t 0, upd wM t 0, sv, sp, sS, ss, cv, fa, fc, upd de t 5, pa_sd C (fun s => 6 * 40 + s * 8 + t) (bt (pa_aset (me t) (re t) s)) fl S)) :
    wpX_receiveVote post (nI S, nI K, nI T, nI C, up, en, me, ye, re, ac, rM, wM, sv, sp, sS, ss, cv, fa, fc, de, fl) 2 (nI t) (nI s) := by
  have i40 : vp_in (nI t) 40 := vp_in_nI (by omega) (by decide)
  refine And.intro i40 ?_
  rw [nI_clamp (show t < 2 ^ 31 by omega)]
  exact br_f (by rw [h2]; decide) (nm_e (xw_missing t ht ⟨i40, br_t h2 (br_f ((pa_and1 _ (by omega)).mpr hb) (br_t rfl (xw_abort t s hS ht h)))⟩))
theorem xw_rvY {post : SX → Prop} (s t : Nat) (hs : s < 5) (ht : t < 8) (h2 : en t = 2) (hb : bt (me t &&& ((ye t ||| re t) ^^^ (-1))) s = true)
    (h : wX_receiveVote_96 post (nI t) ((1 : Int32) <<< (nI s &&& 31)) (me t &&& ((ye t ||| re t) ^^^ (-1))) (nI S) (nI K) (nI T) (nI C) up en me (upd ye t (ye t ||| ((1 : Int32) <<< (nI s &&& 31)))) re ac rM wM sv sp sS ss cv fa fc de fl) :
    wpX_receiveVote post (nI S, nI K, nI T, nI C, up, en, me, ye, re, ac, rM, wM, sv, sp, sS, ss, cv, fa, fc, de, fl) 1 (nI t) (nI s) := by
  have i40 : vp_in (nI t) 40 := vp_in_nI (by omega) (by decide)
  have i8 : vp_in (nI t) 8 := vp_in_nI ht (by decide)
  refine And.intro i40 ?_
  rw [nI_clamp (show t < 2 ^ 31 by omega)]
  exact br_f (by rw [h2]; decide) (nm_e (xw_missing t ht ⟨i40, br_t h2 (br_f ((pa_and1 _ (by omega)).mpr hb) (br_f (by decide) (br_t rfl ⟨i8, i8, nm_e h⟩)))⟩))
theorem xw_rvR {post : SX → Prop} (s t : Nat) (hs : s < 5) (ht : t < 8) (h2 : en t = 2) (hb : bt (me t &&& ((ye t ||| re t) ^^^ (-1))) s = true)
    (h : wX_receiveVote_96 post (nI t) ((1 : Int32) <<< (nI s &&& 31)) (me t &&& ((ye t ||| re t) ^^^ (-1))) (nI S) (nI K) (nI T) (nI C) up en me ye (upd re t (re t ||| ((1 : Int32) <<< (nI s &&& 31)))) ac rM wM sv sp sS ss cv fa fc de fl) :
    wpX_receiveVote post (nI S, nI K, nI T, nI C, up, en, me, ye, re, ac, rM, wM, sv, sp, sS, ss, cv, fa, fc, de, fl) 3 (nI t) (nI s) := by
  have i40 : vp_in (nI t) 40 := vp_in_nI (by omega) (by decide)
  have i8 : vp_in (nI t) 8 := vp_in_nI ht (by decide)
  refine And.intro i40 ?_
  rw [nI_clamp (show t < 2 ^ 31 by omega)]
  exact br_f (by rw [h2]; decide) (nm_e (xw_missing t ht ⟨i40, br_t h2 (br_f ((pa_and1 _ (by omega)).mpr hb) (br_f (by decide) (br_f (by decide) ⟨i8, i8, nm_e h⟩)))⟩))
theorem xw_ct4 {post : SX → Prop} (t : Nat) (hS : S ≤ 4) (ht : t < 8) (h4 : en t = 4)
    (h : post (nI S, nI K, nI T, nI C, up, en, me, ye, re, ac, rM, wM, sv, sp, sS, ss, cv, fa, fc, de, pa_sd C (fun s => 5 * 40 + s * 8 + t) (bt (me t &&& (ac t ^^^ (-1)))) fl S)) : wpX_coordinatorTimer post (nI S, nI K, nI T, nI C, up, en, me, ye, re, ac, rM, wM, sv, sp, sS, ss, cv, fa, fc, de, fl) (nI t) := by
  have i40 : vp_in (nI t) 40 := vp_in_nI (by omega) (by decide)
  have i8 : vp_in (nI t) 8 := vp_in_nI ht (by decide)
  refine And.intro i40 ?_
  rw [nI_clamp (show t < 2 ^ 31 by omega)]
  exact br_t h4 ⟨i8, i8, nm_e (xw_sendToSet 5 t (by decide) ht hS h)⟩
theorem xw_ctN {post : SX → Prop} (t : Nat) (hS : S ≤ 4) (ht : t < 8) (h4 : ¬ en t = 4)
    (h : post (nI S, nI K, nI T, nI C, up, upd en t 0, upd me t 0, upd ye t 0, upd re t 0, upd ac t 0, upd rM t 0, upd wM t 0, sv, sp, sS, ss, cv, fa, fc, upd de t 5, pa_sd C (fun s => 6 * 40 + s * 8 + t) (bt (pa_aset (me t) (re t) 0)) fl S)) : wpX_coordinatorTimer post (nI S, nI K, nI T, nI C, up, en, me, ye, re, ac, rM, wM, sv, sp, sS, ss, cv, fa, fc, de, fl) (nI t) := by
  have i40 : vp_in (nI t) 40 := vp_in_nI (by omega) (by decide)
  refine And.intro i40 ?_
  rw [nI_clamp (show t < 2 ^ 31 by omega)]
  exact br_f h4 (xw_abort t 0 hS ht h)
end
end
section
/-! the reference: small walks -/
def pa_zr (a : Nat → Int32) (base : Nat) : Nat → (Nat → Int32)
  | 0 => a
  | n + 1 => upd (pa_zr a base n) (base + n) 0
def pa_vz (a : Nat → Int32) (t : Nat) : Nat → (Nat → Int32)
  | 0 => a
  | n + 1 => upd (pa_vz a t n) ((n + 1) * 8 + t) 0
def pa_ct (vo : Nat → Int32) (t : Nat) (x : Int32) : Nat → Nat
  | 0 => 0
  | n + 1 => if vo ((n + 1) * 8 + t) = x then pa_ct vo t x n + 1 else pa_ct vo t x n
theorem pa_ct_le (vo : Nat → Int32) (t : Nat) (x : Int32) (n : Nat) : pa_ct vo t x n ≤ n := by
  induction n with
  | zero => exact Nat.le_refl _
  | succ n ih =>
    show (if vo ((n + 1) * 8 + t) = x then pa_ct vo t x n + 1 else pa_ct vo t x n) ≤ n + 1
    by_cases h : vo ((n + 1) * 8 + t) = x
    · rw [if_pos h]; omega
    · rw [if_neg h]; omega
theorem pa_ct0 (vo : Nat → Int32) (t : Nat) (x : Int32) (n : Nat) : pa_ct vo t x n = 0 ↔ ∀ s, 1 ≤ s → s ≤ n → ¬ vo (s * 8 + t) = x := by
  induction n with
  | zero =>
    constructor
    · intro _ s h1 h2
      omega
    · intro _
      rfl
  | succ n ih =>
    show (if vo ((n + 1) * 8 + t) = x then pa_ct vo t x n + 1 else pa_ct vo t x n) = 0 ↔ _
    by_cases h : vo ((n + 1) * 8 + t) = x
    · rw [if_pos h]
      constructor
      · intro z
        omega
      · intro z
        exact absurd h (z (n + 1) (by omega) (Nat.le_refl _))
    · rw [if_neg h, ih]
      constructor
      · intro z s h1 h2
        by_cases e : s = n + 1
        · rw [e]; exact h
        · exact z s h1 (by omega)
      · intro z s h1 h2
        exact z s h1 (by omega)
section
variable {S K T C : Nat} {uY en sp de vo na rm wm sv sW ss cv ft fa fc : Nat → Int32}
theorem yw_at {post : Int32 → Prop} (s t : Nat) (h : post (nI (s * 8 + t))) : wpY_at post (nI S, nI K, nI T, nI C, uY, en, sp, de, vo, na, rm, wm, sv, sW, ss, cv, ft, fa, fc) (nI s) (nI t) := by
  show post (nI s * 8 + nI t)
  rw [pa_at]
  exact h
theorem yw_at0 {post : Int32 → Prop} (t : Nat) (h : post (nI t)) : wpY_at post (nI S, nI K, nI T, nI C, uY, en, sp, de, vo, na, rm, wm, sv, sW, ss, cv, ft, fa, fc) 0 (nI t) := by
  show post (0 * 8 + nI t)
  rw [pa_at0]
  exact h
theorem yw_cell {post : Int32 → Prop} (s t k : Nat) (h : post (nI ((s * 8 + t) * 8 + k))) : wpY_cell post (nI S, nI K, nI T, nI C, uY, en, sp, de, vo, na, rm, wm, sv, sW, ss, cv, ft, fa, fc) (nI s) (nI t) (nI k) := by
  show post ((nI s * 8 + nI t) * 8 + nI k)
  rw [pa_cell]
  exact h
theorem yw_wire {post : Int32 → Prop} (k t s : Nat) (h : post (nI ((k * 8 + t) * 5 + s))) : wpY_wire post (nI S, nI K, nI T, nI C, uY, en, sp, de, vo, na, rm, wm, sv, sW, ss, cv, ft, fa, fc) (nI k) (nI t) (nI s) := by
  show post ((nI k * 8 + nI t) * 5 + nI s)
  rw [pa_wx]
  exact h
theorem yw_send {post : SY → Prop} (k s t : Nat) (hk : k < 8) (hs : s < 5) (ht : t < 8)
    (h : post (nI S, nI K, nI T, nI C, uY, en, sp, de, vo, na, rm, wm, sv, sW, ss, cv, pa_snd C ft ((k * 8 + t) * 5 + s), fa, fc)) : wpY_send post (nI S, nI K, nI T, nI C, uY, en, sp, de, vo, na, rm, wm, sv, sW, ss, cv, ft, fa, fc) (nI k) (nI t) (nI s) := by
  have hb : vp_in (nI ((k * 8 + t) * 5 + s)) 320 := vp_in_nI (by omega) (by decide)
  have hc' : (k * 8 + t) * 5 + s < 2 ^ 31 := by omega
  unfold wpY_send
  refine yw_wire k t s ?_
  rw [nI_clamp hc']
  refine ⟨hb, ?_⟩
  by_cases hc : nI C ≤ ft ((k * 8 + t) * 5 + s)
  · rw [pa_snd, if_pos hc] at h
    exact br_t hc h
  · rw [pa_snd, if_neg hc] at h
    refine br_f hc (yw_wire k t s ?_)
    rw [nI_clamp hc']
    exact ⟨hb, hb, nm_e h⟩
theorem yw_dropV {post : SY → Prop} (t : Nat) (hS : S ≤ 4) (ht : t < 8)
    (h : post (nI S, nI K, nI T, nI C, uY, en, sp, de, pa_vz vo t S, na, rm, wm, sv, sW, ss, cv, ft, fa, fc)) :
    ∀ d i n : Nat, i + d = S → d < n → wY_drop_56 post 0 (nI t) (nI S) (nI K) (nI T) (nI C) n (nI (i + 1)) uY en sp de (pa_vz vo t i) na rm wm sv sW ss cv ft fa fc := by
  intro d
  induction d with
  | zero =>
    intro i n hi hn
    obtain ⟨n, rfl⟩ : ∃ q, n = q + 1 := ⟨n - 1, by omega⟩
    have e : i = S := by omega
    subst e
    exact br_t rfl (br_t (nI_lt (by omega) (by omega)) h)
  | succ d ih =>
    intro i n hi hn
    obtain ⟨n, rfl⟩ : ∃ q, n = q + 1 := ⟨n - 1, by omega⟩
    have key := ih (i + 1) n (by omega) (by omega)
    refine br_t rfl (br_f (nI_nlt (by omega) (by omega)) (yw_at (i + 1) t ?_))
    rw [nI_clamp (show (i + 1) * 8 + t < 2 ^ 31 by omega)]
    exact ⟨vp_in_nI (by omega) (by decide), nm_e (nm_r (nI_1 _) key)⟩
theorem yw_dropK {post : SY → Prop} (s t c : Nat) (hc : s * 8 + t = c) (hs : s < 5) (ht : t < 8) (hK : K ≤ 8)
    (h : ∃ q, wY_drop_56 post (nI s) (nI t) (nI S) (nI K) (nI T) (nI C) q 1 uY en sp de vo na (pa_zr rm (c * 8) K) (pa_zr wm (c * 8) K) sv sW ss cv ft fa fc) :
    ∀ d i n : Nat, i + d = K → d < n → wY_drop_14 post (nI s) (nI t) (nI S) (nI K) (nI T) (nI C) n (nI i) uY en sp de vo na (pa_zr rm (c * 8) i) (pa_zr wm (c * 8) i) sv sW ss cv ft fa fc := by
  intro d
  induction d with
  | zero =>
    intro i n hi hn
    obtain ⟨n, rfl⟩ : ∃ q, n = q + 1 := ⟨n - 1, by omega⟩
    have e : i = K := by omega
    subst e
    exact br_t (nI_le (Nat.le_refl _) (by omega)) h
  | succ d ih =>
    intro i n hi hn
    obtain ⟨n, rfl⟩ : ∃ q, n = q + 1 := ⟨n - 1, by omega⟩
    have key := ih (i + 1) n (by omega) (by omega)
    have i3 : vp_in (nI (c * 8 + i)) 320 := vp_in_nI (by omega) (by decide)
    refine br_f (nI_ge (by omega) (by omega)) (yw_cell s t i ?_)
    rw [hc, nI_clamp (show c * 8 + i < 2 ^ 31 by omega), pa_nb0]
    refine ⟨i3, nm_e (yw_cell s t i ?_)⟩
    rw [hc, nI_clamp (show c * 8 + i < 2 ^ 31 by omega)]
    exact ⟨i3, nm_e (nm_r (nI_1 _) key)⟩
theorem yw_drop0 {post : SY → Prop} (t : Nat) (hS : S ≤ 4) (ht : t < 8) (hK : K ≤ 8)
    (h : post (nI S, nI K, nI T, nI C, uY, upd en t 0, sp, de, pa_vz vo t S, na, pa_zr rm (t * 8) K, pa_zr wm (t * 8) K, sv, sW, ss, cv, ft, fa, fc)) : wpY_drop post (nI S, nI K, nI T, nI C, uY, en, sp, de, vo, na, rm, wm, sv, sW, ss, cv, ft, fa, fc) 0 (nI t) := by
  unfold wpY_drop
  refine yw_at0 t ?_
  rw [nI_clamp (show t < 2 ^ 31 by omega)]
  exact ⟨vp_in_nI (by omega) (by decide), nm_e ⟨K + 1, yw_dropK 0 t t (by omega) (by decide) ht hK ⟨S + 1, yw_dropV t hS ht h S 0 (S + 1) (by omega) (by omega)⟩ K 0 (K + 1) (by omega) (by omega)⟩⟩
theorem yw_dropS {post : SY → Prop} (s t : Nat) (h1 : 1 ≤ s) (hs : s < 5) (ht : t < 8) (hK : K ≤ 8)
    (h : post (nI S, nI K, nI T, nI C, uY, upd en (s * 8 + t) 0, sp, de, vo, na, pa_zr rm ((s * 8 + t) * 8) K, pa_zr wm ((s * 8 + t) * 8) K, sv, sW, ss, cv, ft, fa, fc)) : wpY_drop post (nI S, nI K, nI T, nI C, uY, en, sp, de, vo, na, rm, wm, sv, sW, ss, cv, ft, fa, fc) (nI s) (nI t) := by
  unfold wpY_drop
  refine yw_at s t ?_
  rw [nI_clamp (show s * 8 + t < 2 ^ 31 by omega)]
  exact ⟨vp_in_nI (by omega) (by decide), nm_e ⟨K + 1, yw_dropK s t (s * 8 + t) rfl hs ht hK ⟨1, br_f (nI_ne0 h1 (by omega)) h⟩ K 0 (K + 1) (by omega) (by omega)⟩⟩
theorem yw_hdA {post : SY → Prop} (s n m : Nat) (x : Int32) (hs : s < 5) (hn : n ≤ 8) (hc : fc s = nI n)
    (hx : ∀ i, i < n → (¬ x ≤ nI i ↔ i < m)) (h : post (nI S, nI K, nI T, nI C, uY, en, sp, de, vo, na, rm, wm, sv, sW, ss, cv, ft, fa, upd fc s 0)) :
    ∀ d i q : Nat, i + d = 8 → m ≤ i → d < q → wY_harden_2 post (nI s) x (nI S) (nI K) (nI T) (nI C) q (nI i) uY en sp de vo na rm wm sv sW ss cv ft fa fc := by
  have i5 : vp_in (nI s) 5 := vp_in_nI hs (by decide)
  intro d
  induction d with
  | zero =>
    intro i q hi hm hq
    obtain ⟨q, rfl⟩ : ∃ p, q = p + 1 := ⟨q - 1, by omega⟩
    have e : i = 8 := by omega
    subst e
    refine br_t (by decide) ?_
    rw [nI_clamp (show s < 2 ^ 31 by omega)]
    exact ⟨i5, nm_e h⟩
  | succ d ih =>
    intro i q hi hm hq
    obtain ⟨q, rfl⟩ : ∃ p, q = p + 1 := ⟨q - 1, by omega⟩
    have key := ih (i + 1) q (by omega) (by omega) (by omega)
    refine br_f (nI_ge (b := 8) (by omega) (by decide)) ?_
    rw [nI_clamp (show s < 2 ^ 31 by omega), hc]
    by_cases hin : n ≤ i
    · exact ⟨i5, br_t (nI_le hin (by omega)) (nm_r (nI_1 _) key)⟩
    · have hx' : x ≤ nI i := Decidable.byContradiction fun z => by
        have := (hx i (by omega)).mp z
        omega
      exact ⟨i5, br_f (nI_ge (by omega) (by omega)) (br_t hx' (nm_r (nI_1 _) key))⟩
theorem yw_hdB {post : SY → Prop} (s n m : Nat) (x : Int32) (hs : s < 5) (hn : n ≤ 8) (hm : m ≤ n) (hc : fc s = nI n)
    (hx : ∀ i, i < n → (¬ x ≤ nI i ↔ i < m)) (hfa : ∀ j, j < 40 → ∃ g, g < 8 ∧ fa j = nI g) (h : post (nI S, nI K, nI T, nI C, uY, en, pa_hd fa s sp m, de, vo, na, rm, wm, sv, sW, ss, cv, ft, fa, upd fc s 0)) :
    ∀ d i q : Nat, i + d = m → 8 - i < q → wY_harden_2 post (nI s) x (nI S) (nI K) (nI T) (nI C) q (nI i) uY en (pa_hd fa s sp i) de vo na rm wm sv sW ss cv ft fa fc := by
  have i5 : vp_in (nI s) 5 := vp_in_nI hs (by decide)
  intro d
  induction d with
  | zero =>
    intro i q hi hq
    have e : i = m := by omega
    subst e
    exact yw_hdA s n i x hs hn hc hx h (8 - i) i q (by omega) (Nat.le_refl _) hq
  | succ d ih =>
    intro i q hi hq
    obtain ⟨q, rfl⟩ : ∃ p, q = p + 1 := ⟨q - 1, by omega⟩
    have key := ih (i + 1) q (by omega) (by omega)
    obtain ⟨g, hg, eg⟩ := hfa (s * 8 + i) (by omega)
    have e1 : pa_hd fa s sp (i + 1) = upd (pa_hd fa s sp i) (s * 8 + g) 0 := by
      show upd (pa_hd fa s sp i) (s * 8 + (fa (s * 8 + i)).toNatClampNeg) 0 = _
      rw [eg, nI_clamp (by omega)]
    rw [e1] at key
    refine br_f (nI_ge (b := 8) (by omega) (by decide)) ?_
    rw [nI_clamp (show s < 2 ^ 31 by omega), hc, pa_at, nI_clamp (show s * 8 + i < 2 ^ 31 by omega), eg]
    refine ⟨i5, br_f (nI_ge (by omega) (by omega)) (br_f ((hx i (by omega)).mpr (by omega)) ⟨vp_in_nI (by omega) (by decide), yw_at s g ?_⟩)⟩
    rw [nI_clamp (show s * 8 + g < 2 ^ 31 by omega)]
    exact ⟨vp_in_nI (by omega) (by decide), nm_e (nm_r (nI_1 _) key)⟩
theorem yw_harden {post : SY → Prop} (s n m : Nat) (x : Int32) (hs : s < 5) (hn : n ≤ 8) (hm : m ≤ n) (hc : fc s = nI n)
    (hx : ∀ i, i < n → (¬ x ≤ nI i ↔ i < m)) (hfa : ∀ j, j < 40 → ∃ g, g < 8 ∧ fa j = nI g) (h : post (nI S, nI K, nI T, nI C, uY, en, pa_hd fa s sp m, de, vo, na, rm, wm, sv, sW, ss, cv, ft, fa, upd fc s 0)) :
    wpY_harden post (nI S, nI K, nI T, nI C, uY, en, sp, de, vo, na, rm, wm, sv, sW, ss, cv, ft, fa, fc) (nI s) x :=
  Exists.intro 9 (yw_hdB s n m x hs hn hm hc hx hfa h m 0 9 (by omega) (by omega))
theorem yw_harden8 {post : SY → Prop} (s n : Nat) (hs : s < 5) (hn : n ≤ 8) (hc : fc s = nI n)
    (hfa : ∀ j, j < 40 → ∃ g, g < 8 ∧ fa j = nI g) (h : post (nI S, nI K, nI T, nI C, uY, en, pa_hd fa s sp n, de, vo, na, rm, wm, sv, sW, ss, cv, ft, fa, upd fc s 0)) :
    wpY_harden post (nI S, nI K, nI T, nI C, uY, en, sp, de, vo, na, rm, wm, sv, sW, ss, cv, ft, fa, fc) (nI s) 8 :=
  yw_harden s n n 8 hs hn (Nat.le_refl _) hc (fun i hi => ⟨fun _ => hi, fun _ => nI_ge (b := 8) (by omega) (by decide)⟩) hfa h
theorem yw_note {post : SY → Prop} (s t n : Nat) (hs : s < 5) (hn : n ≤ 8) (hc : fc s = nI n)
    (h : post (nI S, nI K, nI T, nI C, uY, en, sp, de, vo, na, rm, wm, sv, sW, ss, cv, ft, pa_lfa fa fc s t, pa_lfc fc s)) : wpY_note post (nI S, nI K, nI T, nI C, uY, en, sp, de, vo, na, rm, wm, sv, sW, ss, cv, ft, fa, fc) (nI s) (nI t) := by
  have i5 : vp_in (nI s) 5 := vp_in_nI hs (by decide)
  refine And.intro i5 ?_
  rw [nI_clamp (show s < 2 ^ 31 by omega)]
  by_cases h8 : n = 8
  · have h8' : (8 : Int32) ≤ fc s := by rw [hc, h8]; decide
    rw [pa_lfa, pa_lfc, if_pos h8', if_pos h8'] at h
    exact br_t h8' h
  · have h8' : ¬ (8 : Int32) ≤ fc s := by rw [hc]; exact nI_ge (b := 8) (by omega) (by decide)
    rw [pa_lfa, pa_lfc, if_neg h8', if_neg h8', hc, nI_clamp (show n < 2 ^ 31 by omega)] at h
    rw [hc] at h8' ⊢
    refine br_f h8' ?_
    rw [pa_at, nI_clamp (show s * 8 + n < 2 ^ 31 by omega)]
    exact ⟨i5, vp_in_nI (by omega) (by decide), nm_e ⟨i5, i5, nm_e h⟩⟩
theorem yw_countL {post : Int32 → Prop} (t : Nat) (x : Int32) (hS : S ≤ 4) (ht : t < 8) (h : post (nI (pa_ct vo t x S))) :
    ∀ d i n : Nat, i + d = S → d < n → wY_count_5 post (nI t) x (nI S) (nI K) (nI T) (nI C) uY en sp de vo na rm wm sv sW ss cv ft fa fc n (nI (pa_ct vo t x i)) (nI (i + 1)) := by
  intro d
  induction d with
  | zero =>
    intro i n hi hn
    obtain ⟨n, rfl⟩ : ∃ q, n = q + 1 := ⟨n - 1, by omega⟩
    have e : i = S := by omega
    subst e
    exact br_t (nI_lt (by omega) (by omega)) h
  | succ d ih =>
    intro i n hi hn
    obtain ⟨n, rfl⟩ : ∃ q, n = q + 1 := ⟨n - 1, by omega⟩
    have key := ih (i + 1) n (by omega) (by omega)
    refine br_f (nI_nlt (by omega) (by omega)) (yw_at (i + 1) t ?_)
    rw [nI_clamp (show (i + 1) * 8 + t < 2 ^ 31 by omega)]
    by_cases hv : vo ((i + 1) * 8 + t) = x
    · have e : pa_ct vo t x (i + 1) = pa_ct vo t x i + 1 := if_pos hv
      rw [e] at key
      exact ⟨vp_in_nI (by omega) (by decide), br_t hv (nm_r (nI_1 _) (nm_r (nI_1 _) key))⟩
    · have e : pa_ct vo t x (i + 1) = pa_ct vo t x i := if_neg hv
      rw [e] at key
      exact ⟨vp_in_nI (by omega) (by decide), br_f hv (nm_r (nI_1 _) key)⟩
theorem yw_count {post : Int32 → Prop} (t : Nat) (x : Int32) (hS : S ≤ 4) (ht : t < 8) (h : post (nI (pa_ct vo t x S))) : wpY_count post (nI S, nI K, nI T, nI C, uY, en, sp, de, vo, na, rm, wm, sv, sW, ss, cv, ft, fa, fc) (nI t) x :=
  Exists.intro (S + 1) (yw_countL t x hS ht h S 0 (S + 1) (by omega) (by omega))
end
end
section
/-! the reference: abort, owe, decide, prepare, install -/
def pa_aQ (vo : Nat → Int32) (t x s : Nat) : Bool := decide (¬ vo (s * 8 + t) = 0 ∧ ¬ vo (s * 8 + t) = 3 ∧ ¬ s = x)
def pa_nQ (na : Nat → Int32) (t s : Nat) : Bool := decide (¬ na (s * 8 + t) = 0)
def pa_vQ (vo : Nat → Int32) (t : Nat) (x : Int32) (s : Nat) : Bool := decide (vo (s * 8 + t) = x)
def pa_ow (na vo : Nat → Int32) (t : Nat) : Nat → (Nat → Int32)
  | 0 => vo
  | n + 1 => if na ((n + 1) * 8 + t) = 0 then pa_ow na vo t n else upd (pa_ow na vo t n) ((n + 1) * 8 + t) 4
def pa_nm (na vo : Nat → Int32) (t : Nat) : Nat → (Nat → Int32)
  | 0 => na
  | n + 1 => upd (pa_nm na vo t n) ((n + 1) * 8 + t) (if vo ((n + 1) * 8 + t) = 2 then 1 else 0)
section
variable {S K T C : Nat} {uY en sp de vo na rm wm sv sW ss cv ft fa fc wM : Nat → Int32}
theorem yw_abortL {post : SY → Prop} (t x : Nat) (hx : x < 5) (hS : S ≤ 4) (ht : t < 8) (hK : K ≤ 8)
    (h : post (nI S, nI K, nI T, nI C, uY, upd en t 0, sp, de, pa_vz vo t S, na, pa_zr rm (t * 8) K, pa_zr wm (t * 8) K, sv, sW, ss, cv, pa_sd C (fun s => (6 * 8 + t) * 5 + s) (pa_aQ vo t x) ft S, fa, fc)) :
    ∀ d i n : Nat, i + d = S → d < n → wY_abort_14 post (nI t) (nI x) n (nI (i + 1)) (nI S) (nI K) (nI T) (nI C) uY en sp de vo na rm wm sv sW ss cv (pa_sd C (fun s => (6 * 8 + t) * 5 + s) (pa_aQ vo t x) ft i) fa fc := by
  intro d
  induction d with
  | zero =>
    intro i n hi hn
    obtain ⟨n, rfl⟩ : ∃ q, n = q + 1 := ⟨n - 1, by omega⟩
    have e : i = S := by omega
    subst e
    exact br_t (nI_lt (by omega) (by omega)) (yw_drop0 t hS ht hK h)
  | succ d ih =>
    intro i n hi hn
    obtain ⟨n, rfl⟩ : ∃ q, n = q + 1 := ⟨n - 1, by omega⟩
    have key := ih (i + 1) n (by omega) (by omega)
    have i40 : vp_in (nI ((i + 1) * 8 + t)) 40 := vp_in_nI (by omega) (by decide)
    refine br_f (nI_nlt (by omega) (by omega)) (yw_at (i + 1) t ?_)
    rw [nI_clamp (show (i + 1) * 8 + t < 2 ^ 31 by omega)]
    refine ⟨i40, ?_⟩
    by_cases h0 : vo ((i + 1) * 8 + t) = 0
    · have e : pa_sd C (fun s => (6 * 8 + t) * 5 + s) (pa_aQ vo t x) ft (i + 1) = pa_sd C (fun s => (6 * 8 + t) * 5 + s) (pa_aQ vo t x) ft i := if_neg (by unfold pa_aQ; simp [h0])
      rw [e] at key
      exact br_t h0 (nm_r (nI_1 _) key)
    refine br_f h0 (yw_at (i + 1) t ?_)
    rw [nI_clamp (show (i + 1) * 8 + t < 2 ^ 31 by omega)]
    refine ⟨i40, ?_⟩
    by_cases h3 : vo ((i + 1) * 8 + t) = 3
    · have e : pa_sd C (fun s => (6 * 8 + t) * 5 + s) (pa_aQ vo t x) ft (i + 1) = pa_sd C (fun s => (6 * 8 + t) * 5 + s) (pa_aQ vo t x) ft i := if_neg (by unfold pa_aQ; simp [h3])
      rw [e] at key
      exact br_t h3 (nm_r (nI_1 _) key)
    refine br_f h3 ?_
    by_cases hx' : i + 1 = x
    · have e : pa_sd C (fun s => (6 * 8 + t) * 5 + s) (pa_aQ vo t x) ft (i + 1) = pa_sd C (fun s => (6 * 8 + t) * 5 + s) (pa_aQ vo t x) ft i := if_neg (by unfold pa_aQ; simp [hx'])
      rw [e] at key
      exact br_t (congrArg nI hx') (nm_r (nI_1 _) key)
    · have e : pa_sd C (fun s => (6 * 8 + t) * 5 + s) (pa_aQ vo t x) ft (i + 1) = pa_snd C (pa_sd C (fun s => (6 * 8 + t) * 5 + s) (pa_aQ vo t x) ft i) ((6 * 8 + t) * 5 + (i + 1)) := if_pos (decide_eq_true ⟨h0, h3, hx'⟩)
      rw [e] at key
      exact br_f (pa_ne hx' (by omega) (by omega)) (yw_send 6 (i + 1) t (by decide) (by omega) ht (nm_r (nI_1 _) key))
theorem yw_abort {post : SY → Prop} (t x : Nat) (hx : x < 5) (hS : S ≤ 4) (ht : t < 8) (hK : K ≤ 8)
    (h : post (nI S, nI K, nI T, nI C, uY, upd en t 0, sp, upd de t 5, pa_vz vo t S, na, pa_zr rm (t * 8) K, pa_zr wm (t * 8) K, sv, sW, ss, cv, pa_sd C (fun s => (6 * 8 + t) * 5 + s) (pa_aQ vo t x) ft S, fa, fc)) :
    wpY_abort post (nI S, nI K, nI T, nI C, uY, en, sp, de, vo, na, rm, wm, sv, sW, ss, cv, ft, fa, fc) (nI t) (nI x) := by
  unfold wpY_abort
  refine yw_at0 t ?_
  rw [nI_clamp (show t < 2 ^ 31 by omega)]
  exact ⟨vp_in_nI (by omega) (by decide), nm_e ⟨S + 1, yw_abortL t x hx hS ht hK h S 0 (S + 1) (by omega) (by omega)⟩⟩
theorem yw_oweL {post : SY → Prop} (t : Nat) (hS : S ≤ 4) (ht : t < 8)
    (h : post (nI S, nI K, nI T, nI C, uY, en, sp, de, pa_ow na vo t S, na, rm, wm, sv, sW, ss, cv, pa_sd C (fun s => (5 * 8 + t) * 5 + s) (pa_nQ na t) ft S, fa, fc)) :
    ∀ d i n : Nat, i + d = S → d < n → wY_owe_20 post (nI t) n (nI (i + 1)) (nI S) (nI K) (nI T) (nI C) uY en sp de (pa_ow na vo t i) na rm wm sv sW ss cv (pa_sd C (fun s => (5 * 8 + t) * 5 + s) (pa_nQ na t) ft i) fa fc := by
  intro d
  induction d with
  | zero =>
    intro i n hi hn
    obtain ⟨n, rfl⟩ : ∃ q, n = q + 1 := ⟨n - 1, by omega⟩
    have e : i = S := by omega
    subst e
    exact br_t (nI_lt (by omega) (by omega)) h
  | succ d ih =>
    intro i n hi hn
    obtain ⟨n, rfl⟩ : ∃ q, n = q + 1 := ⟨n - 1, by omega⟩
    have key := ih (i + 1) n (by omega) (by omega)
    have i40 : vp_in (nI ((i + 1) * 8 + t)) 40 := vp_in_nI (by omega) (by decide)
    refine br_f (nI_nlt (by omega) (by omega)) (yw_at (i + 1) t ?_)
    rw [nI_clamp (show (i + 1) * 8 + t < 2 ^ 31 by omega)]
    refine ⟨i40, ?_⟩
    by_cases h0 : na ((i + 1) * 8 + t) = 0
    · have e : pa_sd C (fun s => (5 * 8 + t) * 5 + s) (pa_nQ na t) ft (i + 1) = pa_sd C (fun s => (5 * 8 + t) * 5 + s) (pa_nQ na t) ft i := if_neg (by unfold pa_nQ; simp [h0])
      have e2 : pa_ow na vo t (i + 1) = pa_ow na vo t i := if_pos h0
      rw [e, e2] at key
      exact br_t h0 (nm_r (nI_1 _) key)
    · have e : pa_sd C (fun s => (5 * 8 + t) * 5 + s) (pa_nQ na t) ft (i + 1) = pa_snd C (pa_sd C (fun s => (5 * 8 + t) * 5 + s) (pa_nQ na t) ft i) ((5 * 8 + t) * 5 + (i + 1)) := if_pos (decide_eq_true h0)
      have e2 : pa_ow na vo t (i + 1) = upd (pa_ow na vo t i) ((i + 1) * 8 + t) 4 := if_neg h0
      rw [e, e2] at key
      refine br_f h0 (yw_at (i + 1) t ?_)
      rw [nI_clamp (show (i + 1) * 8 + t < 2 ^ 31 by omega)]
      exact ⟨i40, nm_e (yw_send 5 (i + 1) t (by decide) (by omega) ht (nm_r (nI_1 _) key))⟩
theorem yw_owe {post : SY → Prop} (t : Nat) (hS : S ≤ 4) (ht : t < 8) (hK : K ≤ 8)
    (h : post (nI S, nI K, nI T, nI C, uY, upd (upd en t 0) t 4, sp, de, pa_ow na (pa_vz vo t S) t S, na, pa_zr rm (t * 8) K, pa_zr wm (t * 8) K, sv, sW, ss, cv, pa_sd C (fun s => (5 * 8 + t) * 5 + s) (pa_nQ na t) ft S, fa, fc)) :
    wpY_owe post (nI S, nI K, nI T, nI C, uY, en, sp, de, vo, na, rm, wm, sv, sW, ss, cv, ft, fa, fc) (nI t) := by
  unfold wpY_owe
  refine yw_drop0 t hS ht hK (yw_at0 t ?_)
  rw [nI_clamp (show t < 2 ^ 31 by omega)]
  exact ⟨vp_in_nI (by omega) (by decide), nm_e ⟨S + 1, yw_oweL t hS ht h S 0 (S + 1) (by omega) (by omega)⟩⟩
theorem yw_decL {post : SY → Prop} (t : Nat) (hS : S ≤ 4) (ht : t < 8) (hK : K ≤ 8)
    (h : post (nI S, nI K, nI T, nI C, uY, upd (upd en t 0) t 4, sp, de, pa_ow (pa_nm na vo t S) (pa_vz vo t S) t S, pa_nm na vo t S, pa_zr rm (t * 8) K, pa_zr wm (t * 8) K, sv, sW, ss, cv, pa_sd C (fun s => (5 * 8 + t) * 5 + s) (pa_nQ (pa_nm na vo t S) t) ft S, fa, fc)) :
    ∀ d i n : Nat, i + d = S → d < n → wY_decide_49 post (nI t) (nI S) (nI K) (nI T) (nI C) n (nI (i + 1)) uY en sp de vo (pa_nm na vo t i) rm wm sv sW ss cv ft fa fc := by
  intro d
  induction d with
  | zero =>
    intro i n hi hn
    obtain ⟨n, rfl⟩ : ∃ q, n = q + 1 := ⟨n - 1, by omega⟩
    have e : i = S := by omega
    subst e
    exact br_t (nI_lt (by omega) (by omega)) (yw_owe t hS ht hK h)
  | succ d ih =>
    intro i n hi hn
    obtain ⟨n, rfl⟩ : ∃ q, n = q + 1 := ⟨n - 1, by omega⟩
    have key := ih (i + 1) n (by omega) (by omega)
    have i40 : vp_in (nI ((i + 1) * 8 + t)) 40 := vp_in_nI (by omega) (by decide)
    refine br_f (nI_nlt (by omega) (by omega)) (yw_at (i + 1) t (yw_at (i + 1) t ?_))
    rw [nI_clamp (show (i + 1) * 8 + t < 2 ^ 31 by omega), pa_nb0, pa_nb1]
    refine ⟨i40, ?_⟩
    by_cases h2 : vo ((i + 1) * 8 + t) = 2
    · have e : pa_nm na vo t (i + 1) = upd (pa_nm na vo t i) ((i + 1) * 8 + t) 1 := by
        show upd (pa_nm na vo t i) ((i + 1) * 8 + t) (if vo ((i + 1) * 8 + t) = 2 then 1 else 0) = _
        rw [if_pos h2]
      rw [e] at key
      exact br_t h2 ⟨i40, nm_e (nm_r (nI_1 _) key)⟩
    · have e : pa_nm na vo t (i + 1) = upd (pa_nm na vo t i) ((i + 1) * 8 + t) 0 := by
        show upd (pa_nm na vo t i) ((i + 1) * 8 + t) (if vo ((i + 1) * 8 + t) = 2 then 1 else 0) = _
        rw [if_neg h2]
      rw [e] at key
      exact br_f h2 ⟨i40, nm_e (nm_r (nI_1 _) key)⟩
theorem yw_dec0 {post : SY → Prop} (t : Nat) (hS : S ≤ 4) (ht : t < 8) (hK : K ≤ 8) (hy : pa_ct vo t 2 S = 0)
    (h : post (nI S, nI K, nI T, nI C, uY, upd en t 0, sp, upd de t 4, pa_vz vo t S, na, pa_zr rm (t * 8) K, pa_zr wm (t * 8) K, sv, sW, ss, cv, ft, fa, fc)) :
    wpY_decide post (nI S, nI K, nI T, nI C, uY, en, sp, de, vo, na, rm, wm, sv, sW, ss, cv, ft, fa, fc) (nI t) := by
  unfold wpY_decide
  refine yw_at0 t ?_
  rw [nI_clamp (show t < 2 ^ 31 by omega)]
  exact ⟨vp_in_nI (by omega) (by decide), nm_e (yw_count t 2 hS ht (br_t (by rw [hy]; rfl) (yw_drop0 t hS ht hK h)))⟩
theorem yw_dec1 {post : SY → Prop} (t m : Nat) (hS : S ≤ 4) (ht : t < 8) (hK : K ≤ 8) (hm : m ≤ 8) (hfa : ∀ j, j < 40 → ∃ g, g < 8 ∧ fa j = nI g) (hc : fc 0 = nI m) (hy : ¬ pa_ct vo t 2 S = 0)
    (h : post (nI S, nI K, nI T, nI C, uY, upd (upd en t 0) t 4, upd (pa_hd fa 0 sp m) t 4, upd de t 4, pa_ow (pa_nm na vo t S) (pa_vz vo t S) t S, pa_nm na vo t S, pa_zr rm (t * 8) K, pa_zr wm (t * 8) K, sv, sW, ss, cv, pa_sd C (fun s => (5 * 8 + t) * 5 + s) (pa_nQ (pa_nm na vo t S) t) ft S, fa, upd fc 0 0)) :
    wpY_decide post (nI S, nI K, nI T, nI C, uY, en, sp, de, vo, na, rm, wm, sv, sW, ss, cv, ft, fa, fc) (nI t) := by
  have hl := pa_ct_le vo t 2 S
  unfold wpY_decide
  refine yw_at0 t ?_
  rw [nI_clamp (show t < 2 ^ 31 by omega)]
  refine ⟨vp_in_nI (by omega) (by decide), nm_e (yw_count t 2 hS ht (br_f (nI_ne0 (by omega) (by omega)) (yw_harden8 0 m (by decide) hm hc hfa (yw_at0 t ?_))))⟩
  rw [nI_clamp (show t < 2 ^ 31 by omega)]
  exact ⟨vp_in_nI (by omega) (by decide), nm_e ⟨S + 1, yw_decL t hS ht hK h S 0 (S + 1) (by omega) (by omega)⟩⟩
theorem yw_prep98 {post : SY → Prop} (s t : Nat) (hs : s < 5) (ht : t < 8) (hK : K ≤ 8) (hw : ∀ k, k < K → vp_nar .boolean (wm ((s * 8 + t) * 8 + k)) = wm ((s * 8 + t) * 8 + k))
    (h : post (nI S, nI K, nI T, nI C, uY, en, sp, de, vo, na, pa_zr rm ((s * 8 + t) * 8) K, wm, sv, pa_cp sW wm ((s * 8 + t) * 8) K, pa_cp ss sv ((s * 8 + t) * 8) K, cv, pa_snd C ft ((1 * 8 + t) * 5 + s), fa, fc)) :
    ∀ d i n : Nat, i + d = K → d < n → wY_prepare_98 post (nI t) (nI s) (nI S) (nI K) (nI T) (nI C) n (nI i) uY en sp de vo na (pa_zr rm ((s * 8 + t) * 8) i) wm sv (pa_cp sW wm ((s * 8 + t) * 8) i) (pa_cp ss sv ((s * 8 + t) * 8) i) cv ft fa fc := by
  intro d
  induction d with
  | zero =>
    intro i n hi hn
    obtain ⟨n, rfl⟩ : ∃ q, n = q + 1 := ⟨n - 1, by omega⟩
    have e : i = K := by omega
    subst e
    exact br_t (nI_le (Nat.le_refl _) (by omega)) (yw_send 1 s t (by decide) hs ht h)
  | succ d ih =>
    intro i n hi hn
    obtain ⟨n, rfl⟩ : ∃ q, n = q + 1 := ⟨n - 1, by omega⟩
    have key := ih (i + 1) n (by omega) (by omega)
    have i3 : vp_in (nI ((s * 8 + t) * 8 + i)) 320 := vp_in_nI (by omega) (by decide)
    refine br_f (nI_ge (by omega) (by omega)) (yw_cell s t i ?_)
    rw [nI_clamp (show (s * 8 + t) * 8 + i < 2 ^ 31 by omega), pa_nb0, hw i (by omega)]
    exact ⟨i3, nm_e ⟨i3, i3, nm_e ⟨i3, i3, nm_e (nm_r (nI_1 _) key)⟩⟩⟩
theorem yw_prepZ {post : SY → Prop} (s t : Nat) (h1 : 1 ≤ s) (hs : s < 5) (ht : t < 8) (hK : K ≤ 8) (hw : ∀ k, k < K → wm ((s * 8 + t) * 8 + k) = 0)
    (h : post (nI S, nI K, nI T, nI C, uY, upd en (s * 8 + t) 0, sp, de, vo, na, pa_zr rm ((s * 8 + t) * 8) K, pa_zr wm ((s * 8 + t) * 8) K, sv, sW, ss, cv, pa_snd C ft ((3 * 8 + t) * 5 + s), fa, fc)) :
    ∀ d i n : Nat, i + d = K → d < n → wY_prepare_5 post (nI t) (nI s) (nI S) (nI K) (nI T) (nI C) uY en sp de vo na rm wm sv sW ss cv ft fa fc n 0 (nI i) := by
  intro d
  induction d with
  | zero =>
    intro i n hi hn
    obtain ⟨n, rfl⟩ : ∃ q, n = q + 1 := ⟨n - 1, by omega⟩
    have e : i = K := by omega
    subst e
    exact br_t (nI_le (Nat.le_refl _) (by omega)) (br_t rfl (yw_dropS s t h1 hs ht hK (yw_send 3 s t (by decide) hs ht h)))
  | succ d ih =>
    intro i n hi hn
    obtain ⟨n, rfl⟩ : ∃ q, n = q + 1 := ⟨n - 1, by omega⟩
    have key := ih (i + 1) n (by omega) (by omega)
    refine br_f (nI_ge (by omega) (by omega)) (br_t rfl (yw_cell s t i ?_))
    rw [nI_clamp (show (s * 8 + t) * 8 + i < 2 ^ 31 by omega)]
    exact ⟨vp_in_nI (by omega) (by decide), br_t (hw i (by omega)) (nm_r (nI_1 _) key)⟩
theorem yw_prep1 {post : SY → Prop} (s t m : Nat) (hs : s < 5) (ht : t < 8) (hK : K ≤ 8) (hm : m ≤ 8) (hfa : ∀ j, j < 40 → ∃ g, g < 8 ∧ fa j = nI g) (hc : fc s = nI m) (hw : ∀ k, k < K → vp_nar .boolean (wm ((s * 8 + t) * 8 + k)) = wm ((s * 8 + t) * 8 + k))
    (h : post (nI S, nI K, nI T, nI C, uY, upd en (s * 8 + t) 3, upd (pa_hd fa s sp m) (s * 8 + t) 3, de, vo, na, pa_zr rm ((s * 8 + t) * 8) K, wm, sv, pa_cp sW wm ((s * 8 + t) * 8) K, pa_cp ss sv ((s * 8 + t) * 8) K, cv, pa_snd C ft ((1 * 8 + t) * 5 + s), fa, upd fc s 0)) :
    ∀ d i n : Nat, i + d = K → d < n → wY_prepare_5 post (nI t) (nI s) (nI S) (nI K) (nI T) (nI C) uY en sp de vo na rm wm sv sW ss cv ft fa fc n 1 (nI i) := by
  have i40 : vp_in (nI (s * 8 + t)) 40 := vp_in_nI (by omega) (by decide)
  intro d
  induction d with
  | zero =>
    intro i n hi hn
    obtain ⟨n, rfl⟩ : ∃ q, n = q + 1 := ⟨n - 1, by omega⟩
    have e : i = K := by omega
    subst e
    refine br_t (nI_le (Nat.le_refl _) (by omega)) (br_f (by decide) (yw_at s t ?_))
    rw [nI_clamp (show s * 8 + t < 2 ^ 31 by omega)]
    refine ⟨i40, nm_e (yw_harden8 s m hs hm hc hfa (yw_at s t ?_))⟩
    rw [nI_clamp (show s * 8 + t < 2 ^ 31 by omega)]
    exact ⟨i40, nm_e ⟨i + 1, yw_prep98 s t hs ht hK hw h i 0 (i + 1) (by omega) (by omega)⟩⟩
  | succ d ih =>
    intro i n hi hn
    obtain ⟨n, rfl⟩ : ∃ q, n = q + 1 := ⟨n - 1, by omega⟩
    have key := ih (i + 1) n (by omega) (by omega)
    exact br_f (nI_ge (by omega) (by omega)) (br_f (by decide) (nm_r (nI_1 _) key))
theorem yw_prepE {post : SY → Prop} (s t m w : Nat) (hs : s < 5) (ht : t < 8) (hK : K ≤ 8) (hm : m ≤ 8) (hfa : ∀ j, j < 40 → ∃ g, g < 8 ∧ fa j = nI g) (hc : fc s = nI m) (hw : ∀ k, k < K → vp_nar .boolean (wm ((s * 8 + t) * 8 + k)) = wm ((s * 8 + t) * 8 + k))
    (hwK : w < K) (hww : ¬ wm ((s * 8 + t) * 8 + w) = 0)
    (h : post (nI S, nI K, nI T, nI C, uY, upd en (s * 8 + t) 3, upd (pa_hd fa s sp m) (s * 8 + t) 3, de, vo, na, pa_zr rm ((s * 8 + t) * 8) K, wm, sv, pa_cp sW wm ((s * 8 + t) * 8) K, pa_cp ss sv ((s * 8 + t) * 8) K, cv, pa_snd C ft ((1 * 8 + t) * 5 + s), fa, upd fc s 0)) :
    ∀ d i n : Nat, i + d = K → i ≤ w → d < n → wY_prepare_5 post (nI t) (nI s) (nI S) (nI K) (nI T) (nI C) uY en sp de vo na rm wm sv sW ss cv ft fa fc n 0 (nI i) := by
  intro d
  induction d with
  | zero =>
    intro i n hi hiw hn
    exact absurd hiw (by omega)
  | succ d ih =>
    intro i n hi hiw hn
    obtain ⟨n, rfl⟩ : ∃ q, n = q + 1 := ⟨n - 1, by omega⟩
    refine br_f (nI_ge (by omega) (by omega)) (br_t rfl (yw_cell s t i ?_))
    rw [nI_clamp (show (s * 8 + t) * 8 + i < 2 ^ 31 by omega)]
    refine ⟨vp_in_nI (by omega) (by decide), ?_⟩
    by_cases hz : wm ((s * 8 + t) * 8 + i) = 0
    · have hne : i ≠ w := fun e => hww (e ▸ hz)
      exact br_t hz (nm_r (nI_1 _) (ih (i + 1) n (by omega) (by omega) (by omega)))
    · exact br_f hz (nm_r (nI_1 _) (yw_prep1 s t m hs ht hK hm hfa hc hw h d (i + 1) n (by omega) (by omega)))
theorem yw_insL {post : SY → Prop} (s t m : Nat) (h1 : 1 ≤ s) (hs : s < 5) (ht : t < 8) (hK : K ≤ 8) (hm : m ≤ 8) (hfa : ∀ j, j < 40 → ∃ g, g < 8 ∧ fa j = nI g) (hc : fc s = nI m) (hw : ∀ k, k < K → wm ((s * 8 + t) * 8 + k) = pa_b (bt (wM (s * 8 + t)) k))
    (h : post (nI S, nI K, nI T, nI C, uY, upd en (s * 8 + t) 0, pa_hd fa s (upd sp (s * 8 + t) 0) m, upd de (s * 8 + t) 4, vo, na, pa_zr rm ((s * 8 + t) * 8) K, pa_zr wm ((s * 8 + t) * 8) K, sv, sW, ss, pa_ins cv sv wM s (s * 8 + t) K, ft, fa, upd fc s 0)) :
    ∀ d i n : Nat, i + d = K → d < n → wY_install_2 post (nI t) (nI s) (nI S) (nI K) (nI T) (nI C) n (nI i) uY en sp de vo na rm wm sv sW ss (pa_ins cv sv wM s (s * 8 + t) i) ft fa fc := by
  have i40 : vp_in (nI (s * 8 + t)) 40 := vp_in_nI (by omega) (by decide)
  intro d
  induction d with
  | zero =>
    intro i n hi hn
    obtain ⟨n, rfl⟩ : ∃ q, n = q + 1 := ⟨n - 1, by omega⟩
    have e : i = K := by omega
    subst e
    refine br_t (nI_le (Nat.le_refl _) (by omega)) (yw_at s t ?_)
    rw [nI_clamp (show s * 8 + t < 2 ^ 31 by omega)]
    refine ⟨i40, nm_e (yw_dropS s t h1 hs ht hK (yw_at s t ?_))⟩
    rw [nI_clamp (show s * 8 + t < 2 ^ 31 by omega)]
    exact ⟨i40, nm_e (yw_harden8 s m hs hm hc hfa h)⟩
  | succ d ih =>
    intro i n hi hn
    obtain ⟨n, rfl⟩ : ∃ q, n = q + 1 := ⟨n - 1, by omega⟩
    have key := ih (i + 1) n (by omega) (by omega)
    have i3 : vp_in (nI ((s * 8 + t) * 8 + i)) 320 := vp_in_nI (by omega) (by decide)
    refine br_f (nI_ge (by omega) (by omega)) (yw_cell s t i ?_)
    rw [nI_clamp (show (s * 8 + t) * 8 + i < 2 ^ 31 by omega), hw i (by omega)]
    refine ⟨i3, ?_⟩
    by_cases hb : bt (wM (s * 8 + t)) i = true
    · have e : pa_ins cv sv wM s (s * 8 + t) (i + 1) = upd (pa_ins cv sv wM s (s * 8 + t) i) (s * 8 + i) (sv ((s * 8 + t) * 8 + i)) := if_pos hb
      rw [e] at key
      refine br_f (pa_b1.mpr hb) (yw_at s i (yw_cell s t i ?_))
      rw [nI_clamp (show (s * 8 + t) * 8 + i < 2 ^ 31 by omega), nI_clamp (show s * 8 + i < 2 ^ 31 by omega)]
      exact ⟨i3, vp_in_nI (by omega) (by decide), nm_e (nm_r (nI_1 _) key)⟩
    · have e : pa_ins cv sv wM s (s * 8 + t) (i + 1) = pa_ins cv sv wM s (s * 8 + t) i := if_neg hb
      rw [e] at key
      exact br_t (pa_b0.mpr (Bool.eq_false_iff.mpr hb)) (nm_r (nI_1 _) key)
end
end
section
/-! the reference: atStore, atCoordinator -/
section
variable {S K T C : Nat} {uY en sp de vo na rm wm sv sW ss cv ft fa fc wM : Nat → Int32}
theorem ys_62 {post : SY → Prop} {x1 x2 x3 x4 : Int32} (h5 : ¬ x1 = 5) (h6 : ¬ x1 = 6) (h : post (nI S, nI K, nI T, nI C, uY, en, sp, de, vo, na, rm, wm, sv, sW, ss, cv, ft, fa, fc)) : wY_atStore_62 post x1 x2 x3 x4 (nI S) (nI K) (nI T) (nI C) uY en sp de vo na rm wm sv sW ss cv ft fa fc :=
  br_f h5 (br_f h5 (br_f h6 (br_f h6 h)))
theorem ys_p0 {post : SY → Prop} (s t : Nat) (hs : s < 5) (ht : t < 8) (he : en (s * 8 + t) = 0)
    (h : post (nI S, nI K, nI T, nI C, uY, en, sp, de, vo, na, rm, wm, sv, sW, ss, cv, pa_snd C ft ((2 * 8 + t) * 5 + s), fa, fc)) : wpY_atStore post (nI S, nI K, nI T, nI C, uY, en, sp, de, vo, na, rm, wm, sv, sW, ss, cv, ft, fa, fc) 0 (nI t) (nI s) := by
  unfold wpY_atStore
  refine yw_at s t ?_
  rw [nI_clamp (show s * 8 + t < 2 ^ 31 by omega)]
  exact ⟨vp_in_nI (by omega) (by decide), nm_r he (br_t rfl (br_t rfl (yw_send 2 s t (by decide) hs ht (br_t rfl (br_f (by decide) (br_t rfl (br_f (by decide) (ys_62 (by decide) (by decide) h))))))))⟩
theorem ys_p3 {post : SY → Prop} (s t : Nat) (hs : s < 5) (ht : t < 8) (he : en (s * 8 + t) = 3)
    (h : post (nI S, nI K, nI T, nI C, uY, en, sp, de, vo, na, rm, wm, sv, sW, ss, cv, pa_snd C ft ((1 * 8 + t) * 5 + s), fa, fc)) : wpY_atStore post (nI S, nI K, nI T, nI C, uY, en, sp, de, vo, na, rm, wm, sv, sW, ss, cv, ft, fa, fc) 0 (nI t) (nI s) := by
  unfold wpY_atStore
  refine yw_at s t ?_
  rw [nI_clamp (show s * 8 + t < 2 ^ 31 by omega)]
  exact ⟨vp_in_nI (by omega) (by decide), nm_r he (br_t rfl (br_f (by decide) (br_t rfl (br_f (by decide) (br_t rfl (br_t rfl (yw_send 1 s t (by decide) hs ht (ys_62 (by decide) (by decide) h))))))))⟩
theorem ys_pR {post : SY → Prop} (s t : Nat) (h1 : 1 ≤ s) (hs : s < 5) (ht : t < 8) (hK : K ≤ 8) (he : en (s * 8 + t) = 1) (hw : ∀ k, k < K → wm ((s * 8 + t) * 8 + k) = 0)
    (h : post (nI S, nI K, nI T, nI C, uY, upd en (s * 8 + t) 0, sp, de, vo, na, pa_zr rm ((s * 8 + t) * 8) K, pa_zr wm ((s * 8 + t) * 8) K, sv, sW, ss, cv, pa_snd C ft ((3 * 8 + t) * 5 + s), fa, fc)) : wpY_atStore post (nI S, nI K, nI T, nI C, uY, en, sp, de, vo, na, rm, wm, sv, sW, ss, cv, ft, fa, fc) 0 (nI t) (nI s) := by
  unfold wpY_atStore
  refine yw_at s t ?_
  rw [nI_clamp (show s * 8 + t < 2 ^ 31 by omega)]
  refine ⟨vp_in_nI (by omega) (by decide), nm_r he (br_t rfl (br_f (by decide) (br_t rfl (br_t rfl ?_))))⟩
  refine Exists.intro (K + 1) (yw_prepZ s t h1 hs ht hK hw ?_ K 0 (K + 1) (by omega) (by omega))
  exact br_t rfl (br_f (by decide) (ys_62 (by decide) (by decide) h))
theorem ys_pW {post : SY → Prop} (s t m w : Nat) (hs : s < 5) (ht : t < 8) (hK : K ≤ 8) (hm : m ≤ 8) (hfa : ∀ j, j < 40 → ∃ g, g < 8 ∧ fa j = nI g) (hc : fc s = nI m) (he : en (s * 8 + t) = 1) (hw : ∀ k, k < K → vp_nar .boolean (wm ((s * 8 + t) * 8 + k)) = wm ((s * 8 + t) * 8 + k))
    (hwK : w < K) (hww : ¬ wm ((s * 8 + t) * 8 + w) = 0)
    (h : post (nI S, nI K, nI T, nI C, uY, upd en (s * 8 + t) 3, upd (pa_hd fa s sp m) (s * 8 + t) 3, de, vo, na, pa_zr rm ((s * 8 + t) * 8) K, wm, sv, pa_cp sW wm ((s * 8 + t) * 8) K, pa_cp ss sv ((s * 8 + t) * 8) K, cv, pa_snd C ft ((1 * 8 + t) * 5 + s), fa, upd fc s 0)) : wpY_atStore post (nI S, nI K, nI T, nI C, uY, en, sp, de, vo, na, rm, wm, sv, sW, ss, cv, ft, fa, fc) 0 (nI t) (nI s) := by
  unfold wpY_atStore
  refine yw_at s t ?_
  rw [nI_clamp (show s * 8 + t < 2 ^ 31 by omega)]
  refine ⟨vp_in_nI (by omega) (by decide), nm_r he (br_t rfl (br_f (by decide) (br_t rfl (br_t rfl ?_))))⟩
  refine Exists.intro (K + 1) (yw_prepE s t m w hs ht hK hm hfa hc hw hwK hww ?_ K 0 (K + 1) (by omega) (by omega) (by omega))
  exact br_t rfl (br_f (by decide) (ys_62 (by decide) (by decide) h))
theorem ys_c3 {post : SY → Prop} (s t m : Nat) (h1 : 1 ≤ s) (hs : s < 5) (ht : t < 8) (hK : K ≤ 8) (hm : m ≤ 8) (hfa : ∀ j, j < 40 → ∃ g, g < 8 ∧ fa j = nI g) (hc : fc s = nI m) (he : en (s * 8 + t) = 3) (hw : ∀ k, k < K → wm ((s * 8 + t) * 8 + k) = pa_b (bt (wM (s * 8 + t)) k))
    (h : post (nI S, nI K, nI T, nI C, uY, upd en (s * 8 + t) 0, pa_hd fa s (upd sp (s * 8 + t) 0) m, upd de (s * 8 + t) 4, vo, na, pa_zr rm ((s * 8 + t) * 8) K, pa_zr wm ((s * 8 + t) * 8) K, sv, sW, ss, pa_ins cv sv wM s (s * 8 + t) K, pa_snd C ft ((7 * 8 + t) * 5 + s), fa, upd fc s 0)) : wpY_atStore post (nI S, nI K, nI T, nI C, uY, en, sp, de, vo, na, rm, wm, sv, sW, ss, cv, ft, fa, fc) 5 (nI t) (nI s) := by
  unfold wpY_atStore
  refine yw_at s t ?_
  rw [nI_clamp (show s * 8 + t < 2 ^ 31 by omega)]
  refine ⟨vp_in_nI (by omega) (by decide), nm_r he (br_f (by decide) (br_f (by decide) (br_f (by decide) (br_t rfl (br_t rfl ?_)))))⟩
  refine Exists.intro (K + 1) (yw_insL s t m h1 hs ht hK hm hfa hc hw ?_ K 0 (K + 1) (by omega) (by omega))
  exact br_t rfl (yw_send 7 s t (by decide) hs ht (br_f (by decide) (br_f (by decide) h)))
theorem ys_cN {post : SY → Prop} (s t : Nat) (hs : s < 5) (ht : t < 8) (he : ¬ en (s * 8 + t) = 3)
    (h : post (nI S, nI K, nI T, nI C, uY, en, sp, de, vo, na, rm, wm, sv, sW, ss, cv, pa_snd C ft ((7 * 8 + t) * 5 + s), fa, fc)) : wpY_atStore post (nI S, nI K, nI T, nI C, uY, en, sp, de, vo, na, rm, wm, sv, sW, ss, cv, ft, fa, fc) 5 (nI t) (nI s) := by
  unfold wpY_atStore
  refine yw_at s t ?_
  rw [nI_clamp (show s * 8 + t < 2 ^ 31 by omega)]
  exact ⟨vp_in_nI (by omega) (by decide), nm_e (br_f (by decide) (br_f (by decide) (br_f (by decide) (br_t rfl (br_f he (br_t rfl (yw_send 7 s t (by decide) hs ht (br_f (by decide) (br_f (by decide) h)))))))))⟩
theorem ys_a0 {post : SY → Prop} (s t : Nat) (hs : s < 5) (ht : t < 8) (he : en (s * 8 + t) = 0)
    (h : post (nI S, nI K, nI T, nI C, uY, en, sp, de, vo, na, rm, wm, sv, sW, ss, cv, ft, fa, fc)) : wpY_atStore post (nI S, nI K, nI T, nI C, uY, en, sp, de, vo, na, rm, wm, sv, sW, ss, cv, ft, fa, fc) 6 (nI t) (nI s) := by
  unfold wpY_atStore
  refine yw_at s t ?_
  rw [nI_clamp (show s * 8 + t < 2 ^ 31 by omega)]
  exact ⟨vp_in_nI (by omega) (by decide), nm_r he (br_f (by decide) (br_f (by decide) (br_f (by decide) (br_f (by decide) (br_f (by decide) (br_t rfl (br_t rfl (br_t rfl (br_f (by decide) h)))))))))⟩
theorem ys_a1 {post : SY → Prop} (s t : Nat) (h1 : 1 ≤ s) (hs : s < 5) (ht : t < 8) (hK : K ≤ 8) (he : en (s * 8 + t) = 1)
    (h : post (nI S, nI K, nI T, nI C, uY, upd en (s * 8 + t) 0, sp, upd de (s * 8 + t) 5, vo, na, pa_zr rm ((s * 8 + t) * 8) K, pa_zr wm ((s * 8 + t) * 8) K, sv, sW, ss, cv, ft, fa, fc)) : wpY_atStore post (nI S, nI K, nI T, nI C, uY, en, sp, de, vo, na, rm, wm, sv, sW, ss, cv, ft, fa, fc) 6 (nI t) (nI s) := by
  unfold wpY_atStore
  refine yw_at s t ?_
  rw [nI_clamp (show s * 8 + t < 2 ^ 31 by omega)]
  refine ⟨vp_in_nI (by omega) (by decide), nm_r he (br_f (by decide) (br_f (by decide) (br_f (by decide) (br_f (by decide) (br_f (by decide) (br_t rfl (br_f (by decide) (yw_at s t ?_))))))))⟩
  rw [nI_clamp (show s * 8 + t < 2 ^ 31 by omega)]
  exact ⟨vp_in_nI (by omega) (by decide), nm_e (yw_dropS s t h1 hs ht hK (br_t rfl (br_f (by decide) h)))⟩
theorem ys_a3 {post : SY → Prop} (s t n : Nat) (h1 : 1 ≤ s) (hs : s < 5) (ht : t < 8) (hK : K ≤ 8) (hn : n ≤ 8) (hc : fc s = nI n) (he : en (s * 8 + t) = 3)
    (h : post (nI S, nI K, nI T, nI C, uY, upd en (s * 8 + t) 0, sp, upd de (s * 8 + t) 5, vo, na, pa_zr rm ((s * 8 + t) * 8) K, pa_zr wm ((s * 8 + t) * 8) K, sv, sW, ss, cv, ft, pa_lfa fa fc s t, pa_lfc fc s)) : wpY_atStore post (nI S, nI K, nI T, nI C, uY, en, sp, de, vo, na, rm, wm, sv, sW, ss, cv, ft, fa, fc) 6 (nI t) (nI s) := by
  unfold wpY_atStore
  refine yw_at s t ?_
  rw [nI_clamp (show s * 8 + t < 2 ^ 31 by omega)]
  refine ⟨vp_in_nI (by omega) (by decide), nm_r he (br_f (by decide) (br_f (by decide) (br_f (by decide) (br_f (by decide) (br_f (by decide) (br_t rfl (br_f (by decide) (yw_at s t ?_))))))))⟩
  rw [nI_clamp (show s * 8 + t < 2 ^ 31 by omega)]
  exact ⟨vp_in_nI (by omega) (by decide), nm_e (yw_dropS s t h1 hs ht hK (br_t rfl (br_t rfl (yw_note s t n hs hn hc h))))⟩
theorem yc_open {post : SY → Prop} (k : Int32) (s t : Nat) (hs : s < 5) (ht : t < 8)
    (h : ∀ z, (en t = 2 ∧ vo (s * 8 + t) = 1 → z = 1) → (¬ (en t = 2 ∧ vo (s * 8 + t) = 1) → z = 0) → wY_atCoordinator_43 post k (nI t) (nI s) (en t) (vo (s * 8 + t)) z (nI S) (nI K) (nI T) (nI C) uY en sp de vo na rm wm sv sW ss cv ft fa fc) :
    wpY_atCoordinator post (nI S, nI K, nI T, nI C, uY, en, sp, de, vo, na, rm, wm, sv, sW, ss, cv, ft, fa, fc) k (nI t) (nI s) := by
  unfold wpY_atCoordinator
  refine yw_at0 t ?_
  rw [nI_clamp (show t < 2 ^ 31 by omega)]
  refine ⟨vp_in_nI (by omega) (by decide), nm_e (yw_at s t ?_)⟩
  rw [nI_clamp (show s * 8 + t < 2 ^ 31 by omega)]
  refine ⟨vp_in_nI (by omega) (by decide), nm_e ?_⟩
  exact br_c (fun a => br_c (fun b => h 1 (fun _ => rfl) (fun z => absurd ⟨a, b⟩ z)) (fun b => h 0 (fun z => absurd z.2 b) (fun _ => rfl))) (fun a => h 0 (fun z => absurd z.1 a) (fun _ => rfl))
theorem yc_111n {post : SY → Prop} {x1 x2 x3 x4 x5 : Int32} (h1 : ¬ x1 = 1) (h4 : ¬ x1 = 4) (h7 : ¬ x1 = 7) (h : post (nI S, nI K, nI T, nI C, uY, en, sp, de, vo, na, rm, wm, sv, sW, ss, cv, ft, fa, fc)) : wY_atCoordinator_111 post x1 x2 x3 x4 x5 (nI S) (nI K) (nI T) (nI C) uY en sp de vo na rm wm sv sW ss cv ft fa fc :=
  br_f h1 (br_f h4 (br_f h4 (br_f h7 h)))
theorem yc_111y {post : SY → Prop} {x2 x3 x4 x5 : Int32} (h4 : ¬ x4 = 0) (h : post (nI S, nI K, nI T, nI C, uY, en, sp, de, vo, na, rm, wm, sv, sW, ss, cv, ft, fa, fc)) : wY_atCoordinator_111 post 1 x2 x3 x4 x5 (nI S) (nI K) (nI T) (nI C) uY en sp de vo na rm wm sv sW ss cv ft fa fc :=
  br_t rfl (br_f h4 (br_f (by decide) (br_f (by decide) h)))
theorem yc_v1e0 {post : SY → Prop} (s t : Nat) (hs : s < 5) (ht : t < 8) (he : en t = 0)
    (h : post (nI S, nI K, nI T, nI C, uY, en, sp, de, vo, na, rm, wm, sv, sW, ss, cv, pa_snd C ft ((6 * 8 + t) * 5 + s), fa, fc)) : wpY_atCoordinator post (nI S, nI K, nI T, nI C, uY, en, sp, de, vo, na, rm, wm, sv, sW, ss, cv, ft, fa, fc) 1 (nI t) (nI s) := by
  refine yc_open 1 s t hs ht fun z _ hz => ?_
  have hz' := hz (fun a => absurd (he.symm.trans a.1) (by decide))
  subst hz'
  rw [he]
  exact br_t rfl (br_t rfl (br_f (by decide) (br_t rfl (br_t rfl (yw_send 6 s t (by decide) hs ht (br_f (by decide) (br_f (by decide) h)))))))
theorem yc_v1n {post : SY → Prop} (s t : Nat) (hs : s < 5) (ht : t < 8) (h0 : ¬ en t = 0) (ho : ¬ (en t = 2 ∧ vo (s * 8 + t) = 1))
    (h : post (nI S, nI K, nI T, nI C, uY, en, sp, de, vo, na, rm, wm, sv, sW, ss, cv, ft, fa, fc)) : wpY_atCoordinator post (nI S, nI K, nI T, nI C, uY, en, sp, de, vo, na, rm, wm, sv, sW, ss, cv, ft, fa, fc) 1 (nI t) (nI s) := by
  refine yc_open 1 s t hs ht fun z _ hz => ?_
  have hz' := hz ho
  subst hz'
  exact br_t rfl (br_t rfl (br_f (by decide) (yc_111y h0 h)))
theorem yc_v23n {post : SY → Prop} (k : Int32) (s t : Nat) (hs : s < 5) (ht : t < 8) (hk : k = 2 ∨ k = 3) (ho : ¬ (en t = 2 ∧ vo (s * 8 + t) = 1))
    (h : post (nI S, nI K, nI T, nI C, uY, en, sp, de, vo, na, rm, wm, sv, sW, ss, cv, ft, fa, fc)) : wpY_atCoordinator post (nI S, nI K, nI T, nI C, uY, en, sp, de, vo, na, rm, wm, sv, sW, ss, cv, ft, fa, fc) k (nI t) (nI s) := by
  refine yc_open k s t hs ht fun z _ hz => ?_
  have hz' := hz ho
  subst hz'
  rcases hk with rfl | rfl
  · exact br_f (by decide) (br_f (by decide) (br_t rfl (br_t rfl (yc_111n (by decide) (by decide) (by decide) h))))
  · exact br_f (by decide) (br_t rfl (br_t rfl (br_f (by decide) (yc_111n (by decide) (by decide) (by decide) h))))
theorem yc_v2o {post : SY → Prop} (s t : Nat) (hs : s < 5) (ht : t < 8) (hS : S ≤ 4) (hK : K ≤ 8) (he : en t = 2) (hv : vo (s * 8 + t) = 1)
    (h : post (nI S, nI K, nI T, nI C, uY, upd en t 0, sp, upd de t 5, pa_vz vo t S, na, pa_zr rm (t * 8) K, pa_zr wm (t * 8) K, sv, sW, ss, cv, pa_sd C (fun s => (6 * 8 + t) * 5 + s) (pa_aQ vo t s) ft S, fa, fc)) : wpY_atCoordinator post (nI S, nI K, nI T, nI C, uY, en, sp, de, vo, na, rm, wm, sv, sW, ss, cv, ft, fa, fc) 2 (nI t) (nI s) := by
  refine yc_open 2 s t hs ht fun z hz _ => ?_
  have hz' := hz ⟨he, hv⟩
  subst hz'
  exact br_f (by decide) (br_f (by decide) (br_t rfl (br_f (by decide) (yw_abort t s hs hS ht hK (yc_111n (by decide) (by decide) (by decide) h)))))
theorem yc_v1o {post : SY → Prop} (s t : Nat) (hs : s < 5) (ht : t < 8) (hS : S ≤ 4) (he : en t = 2) (hv : vo (s * 8 + t) = 1) (hn : ¬ pa_ct (upd vo (s * 8 + t) 2) t 1 S = 0)
    (h : post (nI S, nI K, nI T, nI C, uY, en, sp, de, upd vo (s * 8 + t) 2, na, rm, wm, sv, sW, ss, cv, ft, fa, fc)) : wpY_atCoordinator post (nI S, nI K, nI T, nI C, uY, en, sp, de, vo, na, rm, wm, sv, sW, ss, cv, ft, fa, fc) 1 (nI t) (nI s) := by
  have hl := pa_ct_le (upd vo (s * 8 + t) 2) t 1 S
  refine yc_open 1 s t hs ht fun z hz _ => ?_
  have hz' := hz ⟨he, hv⟩
  subst hz'
  rw [he]
  refine br_t rfl (br_f (by decide) (yw_at s t (br_t rfl ?_)))
  refine And.intro (vp_in_nI (by omega) (by decide)) ?_
  rw [nI_clamp (show s * 8 + t < 2 ^ 31 by omega)]
  exact nm_e (yw_count t 1 hS ht (br_f (nI_ne0 (by omega) (by omega)) (br_f (by decide) (yc_111y (by decide) h))))
theorem yc_v1d {post : SY → Prop} {V : SY} (s t : Nat) (hs : s < 5) (ht : t < 8) (hS : S ≤ 4) (he : en t = 2) (hv : vo (s * 8 + t) = 1) (hn : pa_ct (upd vo (s * 8 + t) 2) t 1 S = 0)
    (hd : ∀ q : SY → Prop, q V → wpY_decide q (nI S, nI K, nI T, nI C, uY, en, sp, de, upd vo (s * 8 + t) 2, na, rm, wm, sv, sW, ss, cv, ft, fa, fc) (nI t))
    (h : post V) : wpY_atCoordinator post (nI S, nI K, nI T, nI C, uY, en, sp, de, vo, na, rm, wm, sv, sW, ss, cv, ft, fa, fc) 1 (nI t) (nI s) := by
  obtain ⟨b1, b2, b3, b4, b5, b6, b7, b8, b9, b10, b11, b12, b13, b14, b15, b16, b17, b18, b19⟩ := V
  refine yc_open 1 s t hs ht fun z hz _ => ?_
  have hz' := hz ⟨he, hv⟩
  subst hz'
  rw [he]
  refine br_t rfl (br_f (by decide) (yw_at s t (br_t rfl ?_)))
  refine And.intro (vp_in_nI (by omega) (by decide)) ?_
  rw [nI_clamp (show s * 8 + t < 2 ^ 31 by omega)]
  refine nm_e (yw_count t 1 hS ht (br_t (by rw [hn]; rfl) (hd _ ?_)))
  exact br_f (by decide) (br_t rfl (br_f (by decide) (br_f (by decide) (br_f (by decide) h))))
theorem yc_v3o {post : SY → Prop} (s t : Nat) (hs : s < 5) (ht : t < 8) (hS : S ≤ 4) (he : en t = 2) (hv : vo (s * 8 + t) = 1) (hn : ¬ pa_ct (upd vo (s * 8 + t) 3) t 1 S = 0)
    (h : post (nI S, nI K, nI T, nI C, uY, en, sp, de, upd vo (s * 8 + t) 3, na, rm, wm, sv, sW, ss, cv, ft, fa, fc)) : wpY_atCoordinator post (nI S, nI K, nI T, nI C, uY, en, sp, de, vo, na, rm, wm, sv, sW, ss, cv, ft, fa, fc) 3 (nI t) (nI s) := by
  have hl := pa_ct_le (upd vo (s * 8 + t) 3) t 1 S
  refine yc_open 3 s t hs ht fun z hz _ => ?_
  have hz' := hz ⟨he, hv⟩
  subst hz'
  rw [he]
  refine br_f (by decide) (br_t rfl (br_f (by decide) (yw_at s t (br_f (by decide) ?_))))
  refine And.intro (vp_in_nI (by omega) (by decide)) ?_
  rw [nI_clamp (show s * 8 + t < 2 ^ 31 by omega)]
  exact nm_e (yw_count t 1 hS ht (br_f (nI_ne0 (by omega) (by omega)) (br_f (by decide) (yc_111n (by decide) (by decide) (by decide) h))))
theorem yc_v3d {post : SY → Prop} {V : SY} (s t : Nat) (hs : s < 5) (ht : t < 8) (hS : S ≤ 4) (he : en t = 2) (hv : vo (s * 8 + t) = 1) (hn : pa_ct (upd vo (s * 8 + t) 3) t 1 S = 0)
    (hd : ∀ q : SY → Prop, q V → wpY_decide q (nI S, nI K, nI T, nI C, uY, en, sp, de, upd vo (s * 8 + t) 3, na, rm, wm, sv, sW, ss, cv, ft, fa, fc) (nI t))
    (h : post V) : wpY_atCoordinator post (nI S, nI K, nI T, nI C, uY, en, sp, de, vo, na, rm, wm, sv, sW, ss, cv, ft, fa, fc) 3 (nI t) (nI s) := by
  obtain ⟨b1, b2, b3, b4, b5, b6, b7, b8, b9, b10, b11, b12, b13, b14, b15, b16, b17, b18, b19⟩ := V
  refine yc_open 3 s t hs ht fun z hz _ => ?_
  have hz' := hz ⟨he, hv⟩
  subst hz'
  rw [he]
  refine br_f (by decide) (br_t rfl (br_f (by decide) (yw_at s t (br_f (by decide) ?_))))
  refine And.intro (vp_in_nI (by omega) (by decide)) ?_
  rw [nI_clamp (show s * 8 + t < 2 ^ 31 by omega)]
  refine nm_e (yw_count t 1 hS ht (br_t (by rw [hn]; rfl) (hd _ ?_)))
  exact br_f (by decide) (br_f (by decide) (br_f (by decide) (br_f (by decide) (br_f (by decide) h))))
theorem yc_i0 {post : SY → Prop} (s t : Nat) (hs : s < 5) (ht : t < 8) (he : en t = 0)
    (h : post (nI S, nI K, nI T, nI C, uY, en, sp, de, vo, na, rm, wm, sv, sW, ss, cv, pa_snd C ft ((6 * 8 + t) * 5 + s), fa, fc)) : wpY_atCoordinator post (nI S, nI K, nI T, nI C, uY, en, sp, de, vo, na, rm, wm, sv, sW, ss, cv, ft, fa, fc) 4 (nI t) (nI s) := by
  refine yc_open 4 s t hs ht fun z _ _ => ?_
  rw [he]
  exact br_f (by decide) (br_f (by decide) (br_f (by decide) (br_f (by decide) (br_t rfl (br_t rfl (yw_send 6 s t (by decide) hs ht (br_t rfl (br_f (by decide) (br_f (by decide) h)))))))))
theorem yc_i4 {post : SY → Prop} (s t : Nat) (hs : s < 5) (ht : t < 8) (he : en t = 4)
    (h : post (nI S, nI K, nI T, nI C, uY, en, sp, de, vo, na, rm, wm, sv, sW, ss, cv, pa_snd C ft ((5 * 8 + t) * 5 + s), fa, fc)) : wpY_atCoordinator post (nI S, nI K, nI T, nI C, uY, en, sp, de, vo, na, rm, wm, sv, sW, ss, cv, ft, fa, fc) 4 (nI t) (nI s) := by
  refine yc_open 4 s t hs ht fun z _ _ => ?_
  rw [he]
  exact br_f (by decide) (br_f (by decide) (br_f (by decide) (br_f (by decide) (br_t rfl (br_f (by decide) (br_t rfl (br_t rfl (yw_send 5 s t (by decide) hs ht (br_f (by decide) h)))))))))
theorem yc_iN {post : SY → Prop} (s t : Nat) (hs : s < 5) (ht : t < 8) (h0 : ¬ en t = 0) (h4 : ¬ en t = 4)
    (h : post (nI S, nI K, nI T, nI C, uY, en, sp, de, vo, na, rm, wm, sv, sW, ss, cv, ft, fa, fc)) : wpY_atCoordinator post (nI S, nI K, nI T, nI C, uY, en, sp, de, vo, na, rm, wm, sv, sW, ss, cv, ft, fa, fc) 4 (nI t) (nI s) := by
  refine yc_open 4 s t hs ht fun z _ _ => ?_
  exact br_f (by decide) (br_f (by decide) (br_f (by decide) (br_f (by decide) (br_t rfl (br_f h0 (br_t rfl (br_f h4 (br_f (by decide) h))))))))
theorem yc_152 {post : SY → Prop} (s t : Nat) (z : Int32) (h : wY_atCoordinator_152 post 7 (nI t) (nI s) (en t) (vo (s * 8 + t)) (nI S) (nI K) (nI T) (nI C) uY en sp de vo na rm wm sv sW ss cv ft fa fc) : wY_atCoordinator_43 post 7 (nI t) (nI s) (en t) (vo (s * 8 + t)) z (nI S) (nI K) (nI T) (nI C) uY en sp de vo na rm wm sv sW ss cv ft fa fc :=
  br_f (by decide) (br_f (by decide) (br_f (by decide) (br_f (by decide) (br_f (by decide) (br_f (by decide) h)))))
theorem yc_akN {post : SY → Prop} (s t : Nat) (hs : s < 5) (ht : t < 8) (h4 : ¬ (en t = 4 ∧ vo (s * 8 + t) = 4))
    (h : post (nI S, nI K, nI T, nI C, uY, en, sp, de, vo, na, rm, wm, sv, sW, ss, cv, ft, fa, fc)) : wpY_atCoordinator post (nI S, nI K, nI T, nI C, uY, en, sp, de, vo, na, rm, wm, sv, sW, ss, cv, ft, fa, fc) 7 (nI t) (nI s) := by
  refine yc_open 7 s t hs ht fun z _ _ => yc_152 s t z ?_
  exact br_t rfl (br_c (fun a => br_c (fun b => absurd ⟨a, b⟩ h4) (fun _ => h)) (fun _ => h))
theorem yc_ak1 {post : SY → Prop} (s t : Nat) (hs : s < 5) (ht : t < 8) (hS : S ≤ 4) (he : en t = 4) (hv : vo (s * 8 + t) = 4) (hn : ¬ pa_ct (upd vo (s * 8 + t) 5) t 4 S = 0)
    (h : post (nI S, nI K, nI T, nI C, uY, en, sp, de, upd vo (s * 8 + t) 5, na, rm, wm, sv, sW, ss, cv, ft, fa, fc)) : wpY_atCoordinator post (nI S, nI K, nI T, nI C, uY, en, sp, de, vo, na, rm, wm, sv, sW, ss, cv, ft, fa, fc) 7 (nI t) (nI s) := by
  have hl := pa_ct_le (upd vo (s * 8 + t) 5) t 4 S
  refine yc_open 7 s t hs ht fun z _ _ => yc_152 s t z ?_
  refine br_t rfl (br_t he (br_t hv (yw_at s t ?_)))
  rw [nI_clamp (show s * 8 + t < 2 ^ 31 by omega)]
  exact ⟨vp_in_nI (by omega) (by decide), nm_e (yw_count t 4 hS ht (br_f (nI_ne0 (by omega) (by omega)) h))⟩
theorem yc_ak2 {post : SY → Prop} (s t n : Nat) (hs : s < 5) (ht : t < 8) (hS : S ≤ 4) (hK : K ≤ 8) (hn8 : n ≤ 8) (hc : fc 0 = nI n) (he : en t = 4) (hv : vo (s * 8 + t) = 4) (hn : pa_ct (upd vo (s * 8 + t) 5) t 4 S = 0)
    (h : post (nI S, nI K, nI T, nI C, uY, upd en t 0, sp, de, pa_vz (upd vo (s * 8 + t) 5) t S, na, pa_zr rm (t * 8) K, pa_zr wm (t * 8) K, sv, sW, ss, cv, ft, pa_lfa fa fc 0 t, pa_lfc fc 0)) : wpY_atCoordinator post (nI S, nI K, nI T, nI C, uY, en, sp, de, vo, na, rm, wm, sv, sW, ss, cv, ft, fa, fc) 7 (nI t) (nI s) := by
  refine yc_open 7 s t hs ht fun z _ _ => yc_152 s t z ?_
  refine br_t rfl (br_t he (br_t hv (yw_at s t ?_)))
  rw [nI_clamp (show s * 8 + t < 2 ^ 31 by omega)]
  exact ⟨vp_in_nI (by omega) (by decide), nm_e (yw_count t 4 hS ht (br_t (by rw [hn]; rfl) (yw_drop0 t hS ht hK (yw_note 0 t n (by decide) hn8 hc h))))⟩
end
end
section
/-! pure laws: the groups of the relation -/
theorem pa_zr_eq (a : Nat → Int32) (b n j : Nat) : pa_zr a b n j = if b ≤ j ∧ j < b + n then 0 else a j := by
  induction n with
  | zero => exact (if_neg (by omega)).symm
  | succ n ih =>
    show upd (pa_zr a b n) (b + n) 0 j = _
    by_cases h : j = b + n
    · rw [h, pk_us, if_pos (by omega)]
    · rw [pk_un h, ih]
      by_cases g : b ≤ j ∧ j < b + n
      · rw [if_pos g, if_pos (by omega)]
      · rw [if_neg g, if_neg (by omega)]
theorem pa_cp_eq (a c : Nat → Int32) (b n j : Nat) : pa_cp a c b n j = if b ≤ j ∧ j < b + n then c j else a j := by
  induction n with
  | zero => exact (if_neg (by omega)).symm
  | succ n ih =>
    show upd (pa_cp a c b n) (b + n) (c (b + n)) j = _
    by_cases h : j = b + n
    · rw [h, pk_us, if_pos (by omega)]
    · rw [pk_un h, ih]
      by_cases g : b ≤ j ∧ j < b + n
      · rw [if_pos g, if_pos (by omega)]
      · rw [if_neg g, if_neg (by omega)]
theorem pa_vz_eq (a : Nat → Int32) (t n s t' : Nat) (ht : t < 8) (ht' : t' < 8) : pa_vz a t n (s * 8 + t') = if t' = t ∧ 1 ≤ s ∧ s ≤ n then 0 else a (s * 8 + t') := by
  induction n with
  | zero => exact (if_neg (by omega)).symm
  | succ n ih =>
    show upd (pa_vz a t n) ((n + 1) * 8 + t) 0 (s * 8 + t') = _
    by_cases h : s * 8 + t' = (n + 1) * 8 + t
    · rw [h, pk_us, if_pos (by omega)]
    · rw [pk_un h, ih]
      by_cases g : t' = t ∧ 1 ≤ s ∧ s ≤ n
      · rw [if_pos g, if_pos (by omega)]
      · rw [if_neg g, if_neg (by omega)]
theorem pa_nm_eq (na vo : Nat → Int32) (t n s t' : Nat) (ht : t < 8) (ht' : t' < 8) : pa_nm na vo t n (s * 8 + t') = if t' = t ∧ 1 ≤ s ∧ s ≤ n then (if vo (s * 8 + t') = 2 then 1 else 0) else na (s * 8 + t') := by
  induction n with
  | zero => exact (if_neg (by omega)).symm
  | succ n ih =>
    show upd (pa_nm na vo t n) ((n + 1) * 8 + t) (if vo ((n + 1) * 8 + t) = 2 then 1 else 0) (s * 8 + t') = _
    by_cases h : s * 8 + t' = (n + 1) * 8 + t
    · rw [h, pk_us, if_pos (show t' = t ∧ 1 ≤ s ∧ s ≤ n + 1 by omega)]
    · rw [pk_un h, ih]
      by_cases g : t' = t ∧ 1 ≤ s ∧ s ≤ n
      · rw [if_pos g, if_pos (show t' = t ∧ 1 ≤ s ∧ s ≤ n + 1 by omega)]
      · rw [if_neg g, if_neg (show ¬ (t' = t ∧ 1 ≤ s ∧ s ≤ n + 1) by omega)]
theorem pa_ow_eq (na vo : Nat → Int32) (t n s t' : Nat) (ht : t < 8) (ht' : t' < 8) : pa_ow na vo t n (s * 8 + t') = if t' = t ∧ 1 ≤ s ∧ s ≤ n then (if na (s * 8 + t') = 0 then vo (s * 8 + t') else 4) else vo (s * 8 + t') := by
  induction n with
  | zero => exact (if_neg (by omega)).symm
  | succ n ih =>
    show (if na ((n + 1) * 8 + t) = 0 then pa_ow na vo t n else upd (pa_ow na vo t n) ((n + 1) * 8 + t) 4) (s * 8 + t') = _
    by_cases h0 : na ((n + 1) * 8 + t) = 0
    · rw [if_pos h0, ih]
      by_cases h : s * 8 + t' = (n + 1) * 8 + t
      · rw [if_neg (show ¬ (t' = t ∧ 1 ≤ s ∧ s ≤ n) by omega), if_pos (show t' = t ∧ 1 ≤ s ∧ s ≤ n + 1 by omega), h, if_pos h0]
      · by_cases g : t' = t ∧ 1 ≤ s ∧ s ≤ n
        · rw [if_pos g, if_pos (show t' = t ∧ 1 ≤ s ∧ s ≤ n + 1 by omega)]
        · rw [if_neg g, if_neg (show ¬ (t' = t ∧ 1 ≤ s ∧ s ≤ n + 1) by omega)]
    · rw [if_neg h0]
      by_cases h : s * 8 + t' = (n + 1) * 8 + t
      · rw [h, pk_us, if_pos (show t' = t ∧ 1 ≤ s ∧ s ≤ n + 1 by omega), if_neg h0]
      · rw [pk_un h, ih]
        by_cases g : t' = t ∧ 1 ≤ s ∧ s ≤ n
        · rw [if_pos g, if_pos (show t' = t ∧ 1 ≤ s ∧ s ≤ n + 1 by omega)]
        · rw [if_neg g, if_neg (show ¬ (t' = t ∧ 1 ≤ s ∧ s ≤ n + 1) by omega)]
abbrev pa_Sz (S K T C : Nat) : Prop := (1 ≤ S ∧ S ≤ 4) ∧ (1 ≤ K ∧ K ≤ 8) ∧ (1 ≤ T ∧ T ≤ 8) ∧ (1 ≤ C ∧ C ≤ 3)
abbrev pa_GU (S T : Nat) (up uY en : Nat → Int32) : Prop := (∀ j, j ≤ S → uY j = up j) ∧ (∀ j t, j ≤ S → t < T → up j = 0 → en (j * 8 + t) = 0)
def pa_GE (en : Nat → Int32) : Prop := ∀ c, 8 ≤ c → c < 40 → en c = 0 ∨ en c = 1 ∨ en c = 3
def pa_VF (e : Int32) (m y r a : Bool) : Int32 := if m = false then 0 else if e = 4 then (if a = true then 5 else 4) else if y = true then 2 else if r = true then 3 else 1
abbrev pa_V1 (S : Nat) (e m y r a : Int32) (v : Nat → Int32) : Prop :=
  (e = 0 ∨ e = 1 ∨ e = 2 ∨ e = 4) ∧ (∀ i, bt m i = true → 1 ≤ i ∧ i ≤ S) ∧ (∀ i, bt y i = true → bt m i = true ∧ bt r i = false) ∧ (∀ i, bt r i = true → bt m i = true) ∧ (e = 0 → m = 0) ∧ (e = 1 → y = 0 ∧ r = 0) ∧ (∀ s, 1 ≤ s → s ≤ S → v s = pa_VF e (bt m s) (bt y s) (bt r s) (bt a s))
def pa_GV (S : Nat) (en me ye re ac vo : Nat → Int32) : Prop := ∀ t, t < 8 → pa_V1 S (en t) (me t) (ye t) (re t) (ac t) (fun s => vo (s * 8 + t))
abbrev pa_M1 (K : Nat) (e r w : Int32) (fr fw : Nat → Int32) : Prop :=
  (∀ k, bt r k = true → k < K) ∧ (∀ k, bt w k = true → k < K) ∧ (e = 0 → r = 0 ∧ w = 0) ∧ (∀ k, k < K → fr k = pa_b (bt r k)) ∧ (∀ k, k < K → fw k = pa_b (bt w k))
def pa_GM (K : Nat) (en rM wM rm wm : Nat → Int32) : Prop := ∀ c, c < 40 → pa_M1 K (en c) (rM c) (wM c) (fun k => rm (c * 8 + k)) (fun k => wm (c * 8 + k))
abbrev pa_GS (S K : Nat) (sp sS na sW : Nat → Int32) : Prop :=
  (∀ t, t < 8 → (sp t = 0 ∨ sp t = 4) ∧ (sp t = 4 → (∀ i, bt (sS t) i = true → 1 ≤ i ∧ i ≤ S) ∧ (∀ s, 1 ≤ s → s ≤ S → na (s * 8 + t) = pa_b (bt (sS t) s)))) ∧
  (∀ c, 8 ≤ c → c < 40 → (sp c = 0 ∨ sp c = 3) ∧ (sp c = 3 → (∀ k, bt (sS c) k = true → k < K) ∧ (∀ k, k < K → sW (c * 8 + k) = pa_b (bt (sS c) k))))
def pa_GF (fl ft : Nat → Int32) : Prop := ∀ k s t, k < 8 → s < 5 → t < 8 → ft ((k * 8 + t) * 5 + s) = fl (k * 40 + s * 8 + t) ∧ ∃ n, n ≤ 3 ∧ fl (k * 40 + s * 8 + t) = nI n
abbrev pa_GL (fa fc : Nat → Int32) : Prop := (∀ j, j < 40 → ∃ g, g < 8 ∧ fa j = nI g) ∧ (∀ j, j < 5 → ∃ n, n ≤ 8 ∧ fc j = nI n)
/-! flying -/
theorem gf_upd {fl ft : Nat → Int32} {x : Int32} (h : pa_GF fl ft) (k s t n : Nat) (hk : k < 8) (hs : s < 5) (ht : t < 8) (hn : n ≤ 3) (hx : x = nI n) :
    pa_GF (upd fl (k * 40 + s * 8 + t) x) (upd ft ((k * 8 + t) * 5 + s) x) := by
  intro k' s' t' hk' hs' ht'
  by_cases e : k' * 40 + s' * 8 + t' = k * 40 + s * 8 + t
  · have e1 : t' = t := by omega
    have e2 : s' = s := by omega
    have e3 : k' = k := by omega
    subst e1 e2 e3
    rw [pk_us, pk_us]
    exact ⟨rfl, n, hn, hx⟩
  · have e' : (k' * 8 + t') * 5 + s' ≠ (k * 8 + t) * 5 + s := by omega
    rw [pk_un e, pk_un e']
    exact h k' s' t' hk' hs' ht'
theorem gf_snd {fl ft : Nat → Int32} {C : Nat} (h : pa_GF fl ft) (hC : C ≤ 3) (k s t : Nat) (hk : k < 8) (hs : s < 5) (ht : t < 8) :
    pa_GF (pa_snd C fl (k * 40 + s * 8 + t)) (pa_snd C ft ((k * 8 + t) * 5 + s)) := by
  obtain ⟨e, n, hn, en⟩ := h k s t hk hs ht
  unfold pa_snd
  rw [e]
  by_cases hc : nI C ≤ fl (k * 40 + s * 8 + t)
  · rw [if_pos hc, if_pos hc]
    exact h
  · rw [if_neg hc, if_neg hc]
    have hc' : ¬ C ≤ n := by
      rw [en, nI_leI (by omega) (by omega)] at hc
      exact hc
    exact gf_upd h k s t (n + 1) hk hs ht (by omega) (by rw [en, nI_1])
theorem gf_sd {fl ft : Nat → Int32} {C : Nat} {P Q : Nat → Bool} (h : pa_GF fl ft) (hC : C ≤ 3) (k t : Nat) (hk : k < 8) (ht : t < 8) :
    ∀ n, n ≤ 4 → (∀ s, 1 ≤ s → s ≤ n → P s = Q s) → pa_GF (pa_sd C (fun s => k * 40 + s * 8 + t) P fl n) (pa_sd C (fun s => (k * 8 + t) * 5 + s) Q ft n) := by
  intro n
  induction n with
  | zero => intro _ _; exact h
  | succ n ih =>
    intro hn hPQ
    have ih' := ih (by omega) (fun s h1 h2 => hPQ s h1 (by omega))
    show pa_GF (if P (n + 1) = true then pa_snd C (pa_sd C (fun s => k * 40 + s * 8 + t) P fl n) (k * 40 + (n + 1) * 8 + t) else pa_sd C (fun s => k * 40 + s * 8 + t) P fl n)
      (if Q (n + 1) = true then pa_snd C (pa_sd C (fun s => (k * 8 + t) * 5 + s) Q ft n) ((k * 8 + t) * 5 + (n + 1)) else pa_sd C (fun s => (k * 8 + t) * 5 + s) Q ft n)
    rw [hPQ (n + 1) (by omega) (Nat.le_refl _)]
    by_cases hq : Q (n + 1) = true
    · rw [if_pos hq, if_pos hq]
      exact gf_snd ih' hC k (n + 1) t hk (by omega) ht
    · rw [if_neg hq, if_neg hq]
      exact ih'
/-! lists -/
theorem gl_note {fa fc : Nat → Int32} (h : pa_GL fa fc) (s t : Nat) (hs : s < 5) (ht : t < 8) : pa_GL (pa_lfa fa fc s t) (pa_lfc fc s) := by
  obtain ⟨n, hn, en⟩ := h.2 s hs
  unfold pa_lfa pa_lfc
  by_cases h8 : (8 : Int32) ≤ fc s
  · rw [if_pos h8, if_pos h8]
    exact h
  · rw [if_neg h8, if_neg h8]
    have hn' : ¬ 8 ≤ n := fun z => h8 (by rw [en]; exact nI_le (a := 8) z (by omega))
    refine ⟨fun j hj => ?_, fun j hj => ?_⟩
    · by_cases e : j = s * 8 + (fc s).toNatClampNeg
      · rw [e, pk_us]
        exact ⟨t, ht, rfl⟩
      · rw [pk_un e]
        exact h.1 j hj
    · by_cases e : j = s
      · rw [e, pk_us, en, nI_1]
        exact ⟨n + 1, by omega, rfl⟩
      · rw [pk_un e]
        exact h.2 j hj
theorem gl_zero {fa fc : Nat → Int32} (h : pa_GL fa fc) (s : Nat) : pa_GL fa (upd fc s 0) := by
  refine ⟨h.1, fun j hj => ?_⟩
  by_cases e : j = s
  · rw [e, pk_us]
    exact ⟨0, by omega, rfl⟩
  · rw [pk_un e]
    exact h.2 j hj
/-! up, entries -/
theorem gu_upd {S T : Nat} {up uY en : Nat → Int32} {x : Int32} (h : pa_GU S T up uY en) (hT : T ≤ 8) (s t : Nat) (ht : t < 8) (hx : x = 0 ∨ ¬ up s = 0) : pa_GU S T up uY (upd en (s * 8 + t) x) := by
  refine ⟨h.1, fun j t' hj ht' hu => ?_⟩
  by_cases e : j * 8 + t' = s * 8 + t
  · have e1 : j = s := by omega
    subst e1
    rw [e, pk_us]
    exact hx.resolve_right (fun z => z hu)
  · rw [pk_un e]
    exact h.2 j t' hj ht' hu
theorem gu_upd0 {S T : Nat} {up uY en : Nat → Int32} {x : Int32} (h : pa_GU S T up uY en) (hT : T ≤ 8) (t : Nat) (ht : t < 8) (hx : x = 0 ∨ ¬ up 0 = 0) : pa_GU S T up uY (upd en t x) := by
  have g := gu_upd h hT 0 t ht hx
  rw [Nat.zero_mul, Nat.zero_add] at g
  exact g
theorem ge_upd {en : Nat → Int32} {x : Int32} (h : pa_GE en) (c : Nat) (hx : 8 ≤ c → x = 0 ∨ x = 1 ∨ x = 3) : pa_GE (upd en c x) := by
  intro j h1 h2
  by_cases e : j = c
  · subst e
    rw [pk_us]
    exact hx h1
  · rw [pk_un e]
    exact h j h1 h2
/-! marks -/
theorem gm_upd {K : Nat} {en rM wM rm wm en' rM' wM' rm' wm' : Nat → Int32} (h : pa_GM K en rM wM rm wm) (c : Nat)
    (hf : ∀ c', c' < 40 → c' ≠ c → en' c' = en c' ∧ rM' c' = rM c' ∧ wM' c' = wM c' ∧ ∀ k, k < K → rm' (c' * 8 + k) = rm (c' * 8 + k) ∧ wm' (c' * 8 + k) = wm (c' * 8 + k))
    (h1 : pa_M1 K (en' c) (rM' c) (wM' c) (fun k => rm' (c * 8 + k)) (fun k => wm' (c * 8 + k))) : pa_GM K en' rM' wM' rm' wm' := by
  intro c' hc'
  by_cases e : c' = c
  · subst e
    exact h1
  · obtain ⟨e1, e2, e3, e4⟩ := hf c' hc' e
    obtain ⟨a1, a2, a3, a4, a5⟩ := h c' hc'
    rw [e1, e2, e3]
    exact ⟨a1, a2, a3, fun k hk => ((e4 k hk).1).trans (a4 k hk), fun k hk => ((e4 k hk).2).trans (a5 k hk)⟩
theorem gm_clear {K : Nat} {en rM wM rm wm : Nat → Int32} (h : pa_GM K en rM wM rm wm) (hK : K ≤ 8) (c : Nat) :
    pa_GM K (upd en c 0) (upd rM c 0) (upd wM c 0) (pa_zr rm (c * 8) K) (pa_zr wm (c * 8) K) := by
  refine gm_upd h c (fun c' hc' hne => ⟨pk_un hne, pk_un hne, pk_un hne, fun k hk => ⟨?_, ?_⟩⟩) ?_
  · rw [pa_zr_eq, if_neg (by omega)]
  · rw [pa_zr_eq, if_neg (by omega)]
  · rw [pk_us, pk_us, pk_us]
    refine ⟨fun k hk => ?_, fun k hk => ?_, fun _ => ⟨rfl, rfl⟩, fun k hk => ?_, fun k hk => ?_⟩
    · rw [b_0] at hk
      exact absurd hk (by decide)
    · rw [b_0] at hk
      exact absurd hk (by decide)
    · show pa_zr rm (c * 8) K (c * 8 + k) = _
      rw [pa_zr_eq, if_pos (by omega), b_0]
      rfl
    · show pa_zr wm (c * 8) K (c * 8 + k) = _
      rw [pa_zr_eq, if_pos (by omega), b_0]
      rfl
theorem gm_en {K : Nat} {en rM wM rm wm : Nat → Int32} {x : Int32} (h : pa_GM K en rM wM rm wm) (c : Nat) (hc : c < 40) (hx : ¬ x = 0) :
    pa_GM K (upd en c x) rM wM rm wm := by
  refine gm_upd h c (fun c' hc' hne => ⟨pk_un hne, rfl, rfl, fun k hk => ⟨rfl, rfl⟩⟩) ?_
  obtain ⟨a1, a2, a3, a4, a5⟩ := h c hc
  rw [pk_us]
  exact ⟨a1, a2, fun z => absurd z hx, a4, a5⟩
theorem gm_prep {K : Nat} {en rM wM rm wm : Nat → Int32} (h : pa_GM K en rM wM rm wm) (hK : K ≤ 8) (c : Nat) (hc : c < 40) :
    pa_GM K (upd en c 3) (upd rM c 0) wM (pa_zr rm (c * 8) K) wm := by
  refine gm_upd h c (fun c' hc' hne => ⟨pk_un hne, pk_un hne, rfl, fun k hk => ⟨?_, rfl⟩⟩) ?_
  · rw [pa_zr_eq, if_neg (by omega)]
  · obtain ⟨a1, a2, a3, a4, a5⟩ := h c hc
    rw [pk_us, pk_us]
    refine ⟨fun k hk => ?_, a2, fun z => absurd z (by decide), fun k hk => ?_, a5⟩
    · rw [b_0] at hk
      exact absurd hk (by decide)
    · show pa_zr rm (c * 8) K (c * 8 + k) = _
      rw [pa_zr_eq, if_pos (by omega), b_0]
      rfl
theorem gm_rev {K : Nat} {en rM wM rm wm sW : Nat → Int32} {q : Int32} (h : pa_GM K en rM wM rm wm) (hK : K ≤ 8) (c : Nat) (hc : c < 40) (hq : ∀ k, bt q k = true → k < K) (hs : ∀ k, k < K → sW (c * 8 + k) = pa_b (bt q k)) :
    pa_GM K (upd en c 3) rM (upd wM c q) rm (pa_cp wm sW (c * 8) K) := by
  refine gm_upd h c (fun c' hc' hne => ⟨pk_un hne, rfl, pk_un hne, fun k hk => ⟨rfl, ?_⟩⟩) ?_
  · rw [pa_cp_eq, if_neg (by omega)]
  · obtain ⟨a1, a2, a3, a4, a5⟩ := h c hc
    rw [pk_us, pk_us]
    refine ⟨a1, hq, fun z => absurd z (by decide), a4, fun k hk => ?_⟩
    show pa_cp wm sW (c * 8) K (c * 8 + k) = _
    rw [pa_cp_eq, if_pos (by omega)]
    exact hs k hk
theorem gm_read {K : Nat} {en rM wM rm wm : Nat → Int32} (h : pa_GM K en rM wM rm wm) (hK : K ≤ 8) (c k0 : Nat) (hc : c < 40) (hk0 : k0 < K) (he : ¬ en c = 0) :
    pa_GM K en (upd rM c (rM c ||| ((1 : Int32) <<< (nI k0 &&& 31)))) wM (upd rm (c * 8 + k0) 1) wm := by
  refine gm_upd h c (fun c' hc' hne => ⟨rfl, pk_un hne, rfl, fun k hk => ⟨pk_un (by omega), rfl⟩⟩) ?_
  obtain ⟨a1, a2, a3, a4, a5⟩ := h c hc
  rw [pk_us]
  refine ⟨fun k hk => ?_, a2, fun z => absurd z he, fun k hk => ?_, a5⟩
  · rw [pa_orb _ (by omega), Bool.or_eq_true, decide_eq_true_eq] at hk
    rcases hk with hk | hk
    · exact a1 k hk
    · omega
  · show upd rm (c * 8 + k0) 1 (c * 8 + k) = _
    rw [pa_orb _ (by omega)]
    by_cases e : k = k0
    · rw [e, pk_us, decide_eq_true rfl, Bool.or_true]
      rfl
    · rw [pk_un (by omega), decide_eq_false e, Bool.or_false]
      exact a4 k hk
theorem gm_write {K : Nat} {en rM wM rm wm : Nat → Int32} (h : pa_GM K en rM wM rm wm) (hK : K ≤ 8) (c k0 : Nat) (hc : c < 40) (hk0 : k0 < K) (he : ¬ en c = 0) :
    pa_GM K en rM (upd wM c (wM c ||| ((1 : Int32) <<< (nI k0 &&& 31)))) rm (upd wm (c * 8 + k0) 1) := by
  refine gm_upd h c (fun c' hc' hne => ⟨rfl, rfl, pk_un hne, fun k hk => ⟨rfl, pk_un (by omega)⟩⟩) ?_
  obtain ⟨a1, a2, a3, a4, a5⟩ := h c hc
  rw [pk_us]
  refine ⟨a1, fun k hk => ?_, fun z => absurd z he, a4, fun k hk => ?_⟩
  · rw [pa_orb _ (by omega), Bool.or_eq_true, decide_eq_true_eq] at hk
    rcases hk with hk | hk
    · exact a2 k hk
    · omega
  · show upd wm (c * 8 + k0) 1 (c * 8 + k) = _
    rw [pa_orb _ (by omega)]
    by_cases e : k = k0
    · rw [e, pk_us, decide_eq_true rfl, Bool.or_true]
      rfl
    · rw [pk_un (by omega), decide_eq_false e, Bool.or_false]
      exact a5 k hk
/-! stable parts -/
theorem gs_clear {S K : Nat} {sp sS na sW : Nat → Int32} (h : pa_GS S K sp sS na sW) (c : Nat) : pa_GS S K (upd sp c 0) (upd sS c 0) na sW := by
  refine ⟨fun t ht => ?_, fun c' h1 h2 => ?_⟩
  · by_cases e : t = c
    · subst e
      rw [pk_us]
      exact ⟨Or.inl rfl, fun z => absurd z (by decide)⟩
    · rw [pk_un e, pk_un e]
      exact h.1 t ht
  · by_cases e : c' = c
    · subst e
      rw [pk_us]
      exact ⟨Or.inl rfl, fun z => absurd z (by decide)⟩
    · rw [pk_un e, pk_un e]
      exact h.2 c' h1 h2
theorem gs_hd {S K : Nat} {sp sS na sW fa : Nat → Int32} (h : pa_GS S K sp sS na sW) (s : Nat) : ∀ m, pa_GS S K (pa_hd fa s sp m) (pa_hd fa s sS m) na sW := by
  intro m
  induction m with
  | zero => exact h
  | succ m ih => exact gs_clear ih _
theorem gs_prep {S K : Nat} {sp sS na sW wm : Nat → Int32} {w : Int32} (h : pa_GS S K sp sS na sW) (hK : K ≤ 8) (c : Nat) (h8 : 8 ≤ c)
    (hw : ∀ k, bt w k = true → k < K) (hm : ∀ k, k < K → wm (c * 8 + k) = pa_b (bt w k)) :
    pa_GS S K (upd sp c 3) (upd sS c w) na (pa_cp sW wm (c * 8) K) := by
  refine ⟨fun t ht => ?_, fun c' h1 h2 => ?_⟩
  · rw [pk_un (by omega), pk_un (by omega)]
    exact h.1 t ht
  · by_cases e : c' = c
    · subst e
      rw [pk_us, pk_us]
      refine ⟨Or.inr rfl, fun _ => ⟨hw, fun k hk => ?_⟩⟩
      rw [pa_cp_eq, if_pos (by omega)]
      exact hm k hk
    · rw [pk_un e, pk_un e]
      obtain ⟨a1, a2⟩ := h.2 c' h1 h2
      refine ⟨a1, fun z => ⟨(a2 z).1, fun k hk => ?_⟩⟩
      rw [pa_cp_eq, if_neg (by omega)]
      exact (a2 z).2 k hk
theorem gs_dec {S K : Nat} {sp sS na sW vo : Nat → Int32} {y : Int32} (h : pa_GS S K sp sS na sW) (t : Nat) (ht : t < 8)
    (hy : ∀ i, bt y i = true → 1 ≤ i ∧ i ≤ S) (hv : ∀ s, 1 ≤ s → s ≤ S → (vo (s * 8 + t) = 2 ↔ bt y s = true)) :
    pa_GS S K (upd sp t 4) (upd sS t y) (pa_nm na vo t S) sW := by
  refine ⟨fun t' ht' => ?_, fun c' h1 h2 => ?_⟩
  · by_cases e : t' = t
    · subst e
      rw [pk_us, pk_us]
      refine ⟨Or.inr rfl, fun _ => ⟨hy, fun s h1 h2 => ?_⟩⟩
      rw [pa_nm_eq _ _ _ _ _ _ ht' ht', if_pos ⟨rfl, h1, h2⟩]
      by_cases hb : bt y s = true
      · rw [if_pos ((hv s h1 h2).mpr hb), hb]
        rfl
      · rw [if_neg (fun z => hb ((hv s h1 h2).mp z)), Bool.eq_false_iff.mpr hb]
        rfl
    · rw [pk_un e, pk_un e]
      obtain ⟨a1, a2⟩ := h.1 t' ht'
      refine ⟨a1, fun z => ⟨(a2 z).1, fun s h1 h2 => ?_⟩⟩
      rw [pa_nm_eq _ _ _ _ _ _ ht ht', if_neg (fun q => e q.1)]
      exact (a2 z).2 s h1 h2
  · rw [pk_un (by omega), pk_un (by omega)]
    exact h.2 c' h1 h2
end
section
/-! pure laws: votes -/
theorem pv_n {e : Int32} {m y r a : Bool} (he : ¬ e = 4) : pa_VF e m y r a = pa_VF 0 m y r false := by
  unfold pa_VF
  rw [if_neg he, if_neg (by decide : ¬ (0 : Int32) = 4)]
theorem pv_4 (m y r a : Bool) : pa_VF 4 m y r a = pa_VF 4 m false false a := by
  unfold pa_VF
  rw [if_pos rfl, if_pos rfl]
theorem pv_n0 : ∀ m y r : Bool, pa_VF 0 m y r false = 0 ↔ m = false := by decide
theorem pv_n1 : ∀ m y r : Bool, pa_VF 0 m y r false = 1 ↔ (m = true ∧ y = false ∧ r = false) := by decide
theorem pv_n2 : ∀ m y r : Bool, pa_VF 0 m y r false = 2 ↔ (m = true ∧ y = true) := by decide
theorem pv_n3 : ∀ m y r : Bool, pa_VF 0 m y r false = 3 ↔ (m = true ∧ y = false ∧ r = true) := by decide
theorem pv_44 : ∀ m a : Bool, pa_VF 4 m false false a = 4 ↔ (m = true ∧ a = false) := by decide
theorem pv_40 : ∀ m a : Bool, pa_VF 4 m false false a = 0 ↔ m = false := by decide
section
variable {S : Nat} {e m y r a : Int32} {v v' : Nat → Int32}
theorem v1_at (h : pa_V1 S e m y r a v) {s : Nat} (h1 : 1 ≤ s) (h2 : s ≤ S) : v s = pa_VF e (bt m s) (bt y s) (bt r s) (bt a s) := h.2.2.2.2.2.2 s h1 h2
theorem v1_z0 (h : pa_V1 S e m y r a v) {s : Nat} (h1 : 1 ≤ s) (h2 : s ≤ S) : v s = 0 ↔ bt m s = false := by
  rw [v1_at h h1 h2]
  by_cases he : e = 4
  · rw [he, pv_4, pv_40]
  · rw [pv_n he, pv_n0]
theorem v1_z1 (h : pa_V1 S e m y r a v) (he : ¬ e = 4) {s : Nat} (h1 : 1 ≤ s) (h2 : s ≤ S) : v s = 1 ↔ bt (m &&& ((y ||| r) ^^^ (-1))) s = true := by
  rw [v1_at h h1 h2, pv_n he, pv_n1, pa_ac, b_or]
  cases bt m s <;> cases bt y s <;> cases bt r s <;> decide
theorem v1_z2 (h : pa_V1 S e m y r a v) (he : ¬ e = 4) {s : Nat} (h1 : 1 ≤ s) (h2 : s ≤ S) : v s = 2 ↔ bt y s = true := by
  rw [v1_at h h1 h2, pv_n he, pv_n2]
  exact ⟨fun z => z.2, fun z => ⟨(h.2.2.1 s z).1, z⟩⟩
theorem v1_z3 (h : pa_V1 S e m y r a v) (he : ¬ e = 4) {s : Nat} (h1 : 1 ≤ s) (h2 : s ≤ S) : v s = 3 ↔ bt r s = true := by
  rw [v1_at h h1 h2, pv_n he, pv_n3]
  refine ⟨fun z => z.2.2, fun z => ⟨h.2.2.2.1 s z, ?_, z⟩⟩
  cases hy : bt y s with
  | false => rfl
  | true => exact absurd (z.symm.trans (h.2.2.1 s hy).2) (by decide)
theorem v1_z4 (h : pa_V1 S e m y r a v) (he : e = 4) {s : Nat} (h1 : 1 ≤ s) (h2 : s ≤ S) : v s = 4 ↔ bt (m &&& (a ^^^ (-1))) s = true := by
  rw [v1_at h h1 h2, he, pv_4, pv_44, pa_ac]
  cases bt m s <;> cases bt a s <;> decide
theorem v1_clear (hv : ∀ s, 1 ≤ s → s ≤ S → v s = 0) : pa_V1 S 0 0 0 0 0 v := by
  refine ⟨Or.inl rfl, fun i hi => ?_, fun i hi => ?_, fun i hi => ?_, fun _ => rfl, fun z => absurd z (by decide), fun s h1 h2 => ?_⟩
  · rw [b_0] at hi
    exact absurd hi (by decide)
  · rw [b_0] at hi
    exact absurd hi (by decide)
  · rw [b_0] at hi
    exact absurd hi (by decide)
  · rw [hv s h1 h2, b_0]
    rfl
theorem v1_begin (h : pa_V1 S 0 0 0 0 0 v) : pa_V1 S 1 0 0 0 0 v := by
  obtain ⟨a1, a2, a3, a4, a5, a6, a7⟩ := h
  refine ⟨Or.inr (Or.inl rfl), a2, a3, a4, fun z => absurd z (by decide), fun _ => ⟨rfl, rfl⟩, fun s h1 h2 => ?_⟩
  rw [a7 s h1 h2, b_0]
  rfl
theorem v1_enl (h : pa_V1 S 1 m y r a v) {s0 : Nat} (h1 : 1 ≤ s0) (h2 : s0 ≤ S) (hS : S ≤ 4) (hv0 : v' s0 = 1) (hv : ∀ s, s ≠ s0 → v' s = v s) :
    pa_V1 S 1 (m ||| ((1 : Int32) <<< (nI s0 &&& 31))) y r a v' := by
  obtain ⟨a1, a2, a3, a4, a5, a6, a7⟩ := h
  obtain ⟨hy, hr⟩ := a6 rfl
  subst hy hr
  have hs : s0 < 32 := by omega
  refine ⟨a1, fun i hi => ?_, fun i hi => ?_, fun i hi => ?_, fun z => absurd z (by decide), fun _ => ⟨rfl, rfl⟩, fun s g1 g2 => ?_⟩
  · rw [pa_orb _ hs, Bool.or_eq_true, decide_eq_true_eq] at hi
    rcases hi with hi | hi
    · exact a2 i hi
    · omega
  · rw [b_0] at hi
    exact absurd hi (by decide)
  · rw [b_0] at hi
    exact absurd hi (by decide)
  · rw [pa_orb _ hs]
    by_cases e : s = s0
    · rw [e, hv0, decide_eq_true rfl, Bool.or_true, b_0]
      rfl
    · rw [decide_eq_false e, Bool.or_false, hv s e]
      exact a7 s g1 g2
theorem v1_vot (h : pa_V1 S e m y r a v) (he : e = 1 ∨ e = 2) : pa_V1 S 2 m y r a v := by
  obtain ⟨a1, a2, a3, a4, a5, a6, a7⟩ := h
  refine ⟨Or.inr (Or.inr (Or.inl rfl)), a2, a3, a4, fun z => absurd z (by decide), fun z => absurd z (by decide), fun s g1 g2 => ?_⟩
  rw [a7 s g1 g2, pv_n (e := e) (by rcases he with rfl | rfl <;> decide), pv_n (e := 2) (by decide)]
theorem v1_yes (h : pa_V1 S 2 m y r a v) {s0 : Nat} (h2 : s0 ≤ S) (hS : S ≤ 4) (hb : bt (m &&& ((y ||| r) ^^^ (-1))) s0 = true) (hv0 : v' s0 = 2) (hv : ∀ s, s ≠ s0 → v' s = v s) :
    pa_V1 S 2 m (y ||| ((1 : Int32) <<< (nI s0 &&& 31))) r a v' := by
  obtain ⟨a1, a2, a3, a4, a5, a6, a7⟩ := h
  have hs : s0 < 32 := by omega
  rw [pa_ac, b_or, Bool.and_eq_true, Bool.not_eq_true', Bool.or_eq_false_iff] at hb
  obtain ⟨hm, hy, hr⟩ := hb
  refine ⟨a1, a2, fun i hi => ?_, a4, fun z => absurd z (by decide), fun z => absurd z (by decide), fun s g1 g2 => ?_⟩
  · rw [pa_orb _ hs, Bool.or_eq_true, decide_eq_true_eq] at hi
    rcases hi with hi | hi
    · exact a3 i hi
    · rw [hi]
      exact ⟨hm, hr⟩
  · rw [pa_orb _ hs]
    by_cases e : s = s0
    · rw [e, hv0, decide_eq_true rfl, Bool.or_true, hm]
      rfl
    · rw [decide_eq_false e, Bool.or_false, hv s e]
      exact a7 s g1 g2
theorem v1_read (h : pa_V1 S 2 m y r a v) {s0 : Nat} (h2 : s0 ≤ S) (hS : S ≤ 4) (hb : bt (m &&& ((y ||| r) ^^^ (-1))) s0 = true) (hv0 : v' s0 = 3) (hv : ∀ s, s ≠ s0 → v' s = v s) :
    pa_V1 S 2 m y (r ||| ((1 : Int32) <<< (nI s0 &&& 31))) a v' := by
  obtain ⟨a1, a2, a3, a4, a5, a6, a7⟩ := h
  have hs : s0 < 32 := by omega
  rw [pa_ac, b_or, Bool.and_eq_true, Bool.not_eq_true', Bool.or_eq_false_iff] at hb
  obtain ⟨hm, hy, hr⟩ := hb
  refine ⟨a1, a2, fun i hi => ?_, fun i hi => ?_, fun z => absurd z (by decide), fun z => absurd z (by decide), fun s g1 g2 => ?_⟩
  · obtain ⟨b1, b2⟩ := a3 i hi
    refine ⟨b1, ?_⟩
    have hne : i ≠ s0 := fun z => by
      rw [z, hy] at hi
      exact absurd hi (by decide)
    rw [pa_orb _ hs, b2, decide_eq_false hne]
    rfl
  · rw [pa_orb _ hs, Bool.or_eq_true, decide_eq_true_eq] at hi
    rcases hi with hi | hi
    · exact a4 i hi
    · rw [hi]
      exact hm
  · rw [pa_orb _ hs]
    by_cases e : s = s0
    · rw [e, hv0, decide_eq_true rfl, Bool.or_true, hm, hy]
      rfl
    · rw [decide_eq_false e, Bool.or_false, hv s e]
      exact a7 s g1 g2
theorem v1_ack (h : pa_V1 S 4 m y r a v) {s0 : Nat} (h2 : s0 ≤ S) (hS : S ≤ 4) (hm : bt m s0 = true) (hv0 : v' s0 = 5) (hv : ∀ s, s ≠ s0 → v' s = v s) :
    pa_V1 S 4 m y r (a ||| ((1 : Int32) <<< (nI s0 &&& 31))) v' := by
  obtain ⟨a1, a2, a3, a4, a5, a6, a7⟩ := h
  have hs : s0 < 32 := by omega
  refine ⟨a1, a2, a3, a4, fun z => absurd z (by decide), fun z => absurd z (by decide), fun s g1 g2 => ?_⟩
  rw [pa_orb _ hs]
  by_cases e : s = s0
  · rw [e, hv0, decide_eq_true rfl, Bool.or_true, hm]
    rfl
  · rw [decide_eq_false e, Bool.or_false, hv s e]
    exact a7 s g1 g2
theorem v1_owe {q : Int32} (hq : ∀ i, bt q i = true → 1 ≤ i ∧ i ≤ S) (hv : ∀ s, 1 ≤ s → s ≤ S → v s = if bt q s = true then 4 else 0) : pa_V1 S 4 q 0 0 0 v := by
  refine ⟨Or.inr (Or.inr (Or.inr rfl)), hq, fun i hi => ?_, fun i hi => ?_, fun z => absurd z (by decide), fun z => absurd z (by decide), fun s h1 h2 => ?_⟩
  · rw [b_0] at hi
    exact absurd hi (by decide)
  · rw [b_0] at hi
    exact absurd hi (by decide)
  · rw [hv s h1 h2, b_0]
    cases bt q s <;> rfl
/-! what both sides ask of the votes -/
theorem v1_mem0 (h : pa_V1 S e m y r a v) (he : e = 1) : m = 0 ↔ ∀ s, 1 ≤ s → s ≤ S → ¬ v s = 1 := by
  have h4 : ¬ e = 4 := by rw [he]; decide
  obtain ⟨hy, hr⟩ := h.2.2.2.2.2.1 he
  rw [pa_eq0]
  constructor
  · intro z s h1 h2
    rw [v1_z1 h h4 h1 h2, pa_ac, z s]
    rw [Bool.false_and]; decide
  · intro z i
    cases hb : bt m i with
    | false => rfl
    | true =>
      obtain ⟨h1, h2⟩ := h.2.1 i hb
      refine absurd ((v1_z1 h h4 h1 h2).mpr ?_) (z i h1 h2)
      rw [pa_ac, b_or, hb, hy, hr, b_0]
      rfl
theorem v1_yes0 (h : pa_V1 S e m y r a v) (h4 : ¬ e = 4) : y = 0 ↔ ∀ s, 1 ≤ s → s ≤ S → ¬ v s = 2 := by
  rw [pa_eq0]
  constructor
  · intro z s h1 h2
    rw [v1_z2 h h4 h1 h2, z s]
    decide
  · intro z i
    cases hb : bt y i with
    | false => rfl
    | true =>
      obtain ⟨h1, h2⟩ := h.2.1 i (h.2.2.1 i hb).1
      exact absurd ((v1_z2 h h4 h1 h2).mpr hb) (z i h1 h2)
theorem v1_last (h : pa_V1 S e m y r a v) (h4 : ¬ e = 4) {s0 : Nat} (hS : S ≤ 4) (h2 : s0 ≤ S) (hb : bt (m &&& ((y ||| r) ^^^ (-1))) s0 = true) (hv0 : ¬ v' s0 = 1) (hv : ∀ s, s ≠ s0 → v' s = v s) :
    (m &&& ((y ||| r) ^^^ (-1))) = ((1 : Int32) <<< (nI s0 &&& 31)) ↔ ∀ s, 1 ≤ s → s ≤ S → ¬ v' s = 1 := by
  have hs : s0 < 32 := by omega
  constructor
  · intro z s g1 g2
    by_cases e : s = s0
    · rw [e]
      exact hv0
    · rw [hv s e, v1_z1 h h4 g1 g2, z, pa_bt1 hs, decide_eq_false e]
      decide
  · intro z
    refine b_ext fun i _ => ?_
    rw [pa_bt1 hs]
    by_cases e : i = s0
    · rw [e, hb, decide_eq_true rfl]
    · rw [decide_eq_false e]
      cases hc : bt (m &&& ((y ||| r) ^^^ (-1))) i with
      | false => rfl
      | true =>
        have hm : bt m i = true := by
          rw [pa_ac, Bool.and_eq_true] at hc
          exact hc.1
        obtain ⟨g1, g2⟩ := h.2.1 i hm
        refine absurd ?_ (z i g1 g2)
        rw [hv i e]
        exact (v1_z1 h h4 g1 g2).mpr hc
theorem v1_acks (h : pa_V1 S e m y r a v) (h4 : e = 4) {s0 : Nat} (hS : S ≤ 4) (h2 : s0 ≤ S) (hv0 : ¬ v' s0 = 4) (hv : ∀ s, s ≠ s0 → v' s = v s) :
    (m &&& ((a ||| ((1 : Int32) <<< (nI s0 &&& 31))) ^^^ (-1))) = 0 ↔ ∀ s, 1 ≤ s → s ≤ S → ¬ v' s = 4 := by
  have hs : s0 < 32 := by omega
  rw [pa_eq0]
  constructor
  · intro z s g1 g2
    by_cases e : s = s0
    · rw [e]
      exact hv0
    · have zz := z s
      rw [pa_ac, pa_orb _ hs, decide_eq_false e, Bool.or_false] at zz
      rw [hv s e, v1_z4 h h4 g1 g2, pa_ac, zz]
      decide
  · intro z i
    rw [pa_ac, pa_orb _ hs]
    by_cases e : i = s0
    · rw [decide_eq_true e, Bool.or_true]
      cases bt m i <;> rfl
    · rw [decide_eq_false e, Bool.or_false]
      cases hm : bt m i with
      | false => rfl
      | true =>
        obtain ⟨g1, g2⟩ := h.2.1 i hm
        have zz := z i g1 g2
        rw [hv i e, v1_z4 h h4 g1 g2, pa_ac, hm] at zz
        cases ha : bt a i with
        | true => rfl
        | false => exact absurd (by rw [ha]; rfl) zz
end
/-! the votes of all transactions -/
section
variable {S : Nat} {en me ye re ac vo en' me' ye' re' ac' vo' : Nat → Int32}
theorem gv_upd (h : pa_GV S en me ye re ac vo) (t : Nat)
    (hf : ∀ t', t' < 8 → t' ≠ t → en' t' = en t' ∧ me' t' = me t' ∧ ye' t' = ye t' ∧ re' t' = re t' ∧ ac' t' = ac t' ∧ ∀ s, 1 ≤ s → s ≤ S → vo' (s * 8 + t') = vo (s * 8 + t'))
    (h1 : pa_V1 S (en' t) (me' t) (ye' t) (re' t) (ac' t) (fun s => vo' (s * 8 + t))) : pa_GV S en' me' ye' re' ac' vo' := by
  intro t' ht'
  by_cases e : t' = t
  · subst e
    exact h1
  · obtain ⟨e1, e2, e3, e4, e5, e6⟩ := hf t' ht' e
    obtain ⟨a1, a2, a3, a4, a5, a6, a7⟩ := h t' ht'
    rw [e1, e2, e3, e4, e5]
    exact ⟨a1, a2, a3, a4, a5, a6, fun s g1 g2 => (e6 s g1 g2).trans (a7 s g1 g2)⟩
theorem gv_far {x : Int32} (h : pa_GV S en me ye re ac vo) (c : Nat) (hc : 8 ≤ c) : pa_GV S (upd en c x) me ye re ac vo := by
  intro t ht
  rw [pk_un (by omega)]
  exact h t ht
theorem gv_clear (h : pa_GV S en me ye re ac vo) (t : Nat) (ht : t < 8) (hv : ∀ t' s, t' < 8 → t' ≠ t → vo' (s * 8 + t') = vo (s * 8 + t')) :
    pa_GV S (upd en t 0) (upd me t 0) (upd ye t 0) (upd re t 0) (upd ac t 0) (pa_vz vo' t S) := by
  refine gv_upd h t (fun t' ht' hne => ⟨pk_un hne, pk_un hne, pk_un hne, pk_un hne, pk_un hne, fun s g1 g2 => ?_⟩) ?_
  · rw [pa_vz_eq _ _ _ _ _ ht ht', if_neg (fun z => hne z.1)]
    exact hv t' s ht' hne
  · rw [pk_us, pk_us, pk_us, pk_us, pk_us]
    refine v1_clear fun s g1 g2 => ?_
    show pa_vz vo' t S (s * 8 + t) = 0
    rw [pa_vz_eq _ _ _ _ _ ht ht, if_pos ⟨rfl, g1, g2⟩]
end
end
section
/-! the relation, bundled -/
abbrev pa_G (S K T C : Nat) (up uY en me ye re ac rM wM sp sS fa fc fl vo na rm wm sW ft : Nat → Int32) : Prop :=
  pa_Sz S K T C ∧ pa_GU S T up uY en ∧ pa_GE en ∧ pa_GV S en me ye re ac vo ∧ pa_GM K en rM wM rm wm ∧ pa_GS S K sp sS na sW ∧ pa_GF fl ft ∧ pa_GL fa fc
def pa_R (S K T C : Nat) (u : SX) (v : SY) : Prop :=
  ∃ up uY en me ye re ac rM wM sv sp sS ss cv fa fc de fl vo na rm wm sW ft : Nat → Int32, (pa_G S K T C up uY en me ye re ac rM wM sp sS fa fc fl vo na rm wm sW ft) ∧ u = (nI S, nI K, nI T, nI C, up, en, me, ye, re, ac, rM, wM, sv, sp, sS, ss, cv, fa, fc, de, fl) ∧ v = (nI S, nI K, nI T, nI C, uY, en, sp, de, vo, na, rm, wm, sv, sW, ss, cv, ft, fa, fc)
abbrev pa_L (S K T C : Nat) (A : (SX → Prop) → Prop) (B : (SY → Prop) → Prop) : Prop :=
  ∃ (u : SX) (v : SY), pa_R S K T C u v ∧ (∀ p : SX → Prop, p u → A p) ∧ (∀ p : SY → Prop, p v → B p)
section
variable {S K T C : Nat} {up uY en me ye re ac rM wM sv sp sS ss cv fa fc de fl vo na rm wm sW ft : Nat → Int32}
theorem pa_mk (h : (pa_G S K T C up uY en me ye re ac rM wM sp sS fa fc fl vo na rm wm sW ft)) : pa_R S K T C (nI S, nI K, nI T, nI C, up, en, me, ye, re, ac, rM, wM, sv, sp, sS, ss, cv, fa, fc, de, fl) (nI S, nI K, nI T, nI C, uY, en, sp, de, vo, na, rm, wm, sv, sW, ss, cv, ft, fa, fc) := by
  unfold pa_R
  exact ⟨up, uY, en, me, ye, re, ac, rM, wM, sv, sp, sS, ss, cv, fa, fc, de, fl, vo, na, rm, wm, sW, ft, h, rfl, rfl⟩
end
section
variable {S K T C : Nat} {up uY en me ye re ac rM wM sp sS fa fc fl vo na rm wm sW ft : Nat → Int32}
theorem pa_mk4 (sv ss cv de : Nat → Int32) (h : (pa_G S K T C up uY en me ye re ac rM wM sp sS fa fc fl vo na rm wm sW ft)) : pa_R S K T C (nI S, nI K, nI T, nI C, up, en, me, ye, re, ac, rM, wM, sv, sp, sS, ss, cv, fa, fc, de, fl) (nI S, nI K, nI T, nI C, uY, en, sp, de, vo, na, rm, wm, sv, sW, ss, cv, ft, fa, fc) := pa_mk h
end
theorem pa_el {S K T C : Nat} {P : SX → SY → Prop} (h : ∀ up uY en me ye re ac rM wM sv sp sS ss cv fa fc de fl vo na rm wm sW ft : Nat → Int32, (pa_G S K T C up uY en me ye re ac rM wM sp sS fa fc fl vo na rm wm sW ft) → P (nI S, nI K, nI T, nI C, up, en, me, ye, re, ac, rM, wM, sv, sp, sS, ss, cv, fa, fc, de, fl) (nI S, nI K, nI T, nI C, uY, en, sp, de, vo, na, rm, wm, sv, sW, ss, cv, ft, fa, fc)) {u : SX} {v : SY} (I : pa_R S K T C u v) : P u v := by
  unfold pa_R at I
  obtain ⟨up, uY, en, me, ye, re, ac, rM, wM, sv, sp, sS, ss, cv, fa, fc, de, fl, vo, na, rm, wm, sW, ft, hG, hu, hv⟩ := I
  rw [hu, hv]
  exact h up uY en me ye re ac rM wM sv sp sS ss cv fa fc de fl vo na rm wm sW ft hG
section
variable {S K T C : Nat} {up uY en me ye re ac rM wM sv sp sS ss cv fa fc de fl vo na rm wm sW ft vo' : Nat → Int32}
theorem g_snd (h : (pa_G S K T C up uY en me ye re ac rM wM sp sS fa fc fl vo na rm wm sW ft)) (k s t : Nat) (hk : k < 8) (hs : s < 5) (ht : t < 8) : (pa_G S K T C up uY en me ye re ac rM wM sp sS fa fc (pa_snd C fl (k * 40 + s * 8 + t)) vo na rm wm sW (pa_snd C ft ((k * 8 + t) * 5 + s))) :=
  ⟨h.1, h.2.1, h.2.2.1, h.2.2.2.1, h.2.2.2.2.1, h.2.2.2.2.2.1, gf_snd h.2.2.2.2.2.2.1 h.1.2.2.2.2 k s t hk hs ht, h.2.2.2.2.2.2.2⟩
theorem g_sd (h : (pa_G S K T C up uY en me ye re ac rM wM sp sS fa fc fl vo na rm wm sW ft)) {P Q : Nat → Bool} (k t : Nat) (hk : k < 8) (ht : t < 8) (hPQ : ∀ s, 1 ≤ s → s ≤ S → P s = Q s) : (pa_G S K T C up uY en me ye re ac rM wM sp sS fa fc (pa_sd C (fun s => k * 40 + s * 8 + t) P fl S) vo na rm wm sW (pa_sd C (fun s => (k * 8 + t) * 5 + s) Q ft S)) :=
  ⟨h.1, h.2.1, h.2.2.1, h.2.2.2.1, h.2.2.2.2.1, h.2.2.2.2.2.1, gf_sd h.2.2.2.2.2.2.1 h.1.2.2.2.2 k t hk ht S h.1.1.2 hPQ, h.2.2.2.2.2.2.2⟩
theorem g_fupd (h : (pa_G S K T C up uY en me ye re ac rM wM sp sS fa fc fl vo na rm wm sW ft)) {x : Int32} (k s t n : Nat) (hk : k < 8) (hs : s < 5) (ht : t < 8) (hn : n ≤ 3) (hx : x = nI n) : (pa_G S K T C up uY en me ye re ac rM wM sp sS fa fc (upd fl (k * 40 + s * 8 + t) x) vo na rm wm sW (upd ft ((k * 8 + t) * 5 + s) x)) :=
  ⟨h.1, h.2.1, h.2.2.1, h.2.2.2.1, h.2.2.2.2.1, h.2.2.2.2.2.1, gf_upd h.2.2.2.2.2.2.1 k s t n hk hs ht hn hx, h.2.2.2.2.2.2.2⟩
theorem g_note (h : (pa_G S K T C up uY en me ye re ac rM wM sp sS fa fc fl vo na rm wm sW ft)) (s t : Nat) (hs : s < 5) (ht : t < 8) : (pa_G S K T C up uY en me ye re ac rM wM sp sS (pa_lfa fa fc s t) (pa_lfc fc s) fl vo na rm wm sW ft) :=
  ⟨h.1, h.2.1, h.2.2.1, h.2.2.2.1, h.2.2.2.2.1, h.2.2.2.2.2.1, h.2.2.2.2.2.2.1, gl_note h.2.2.2.2.2.2.2 s t hs ht⟩
theorem g_hd (h : (pa_G S K T C up uY en me ye re ac rM wM sp sS fa fc fl vo na rm wm sW ft)) (s m : Nat) : (pa_G S K T C up uY en me ye re ac rM wM (pa_hd fa s sp m) (pa_hd fa s sS m) fa (upd fc s 0) fl vo na rm wm sW ft) :=
  ⟨h.1, h.2.1, h.2.2.1, h.2.2.2.1, h.2.2.2.2.1, gs_hd h.2.2.2.2.2.1 s m, h.2.2.2.2.2.2.1, gl_zero h.2.2.2.2.2.2.2 s⟩
theorem g_clrS (h : (pa_G S K T C up uY en me ye re ac rM wM sp sS fa fc fl vo na rm wm sW ft)) (c : Nat) : (pa_G S K T C up uY en me ye re ac rM wM (upd sp c 0) (upd sS c 0) fa fc fl vo na rm wm sW ft) :=
  ⟨h.1, h.2.1, h.2.2.1, h.2.2.2.1, h.2.2.2.2.1, gs_clear h.2.2.2.2.2.1 c, h.2.2.2.2.2.2.1, h.2.2.2.2.2.2.2⟩
theorem g_clearS (h : (pa_G S K T C up uY en me ye re ac rM wM sp sS fa fc fl vo na rm wm sW ft)) (s t : Nat) (h1 : 1 ≤ s) (ht : t < 8) : (pa_G S K T C up uY (upd en (s * 8 + t) 0) me ye re ac (upd rM (s * 8 + t) 0) (upd wM (s * 8 + t) 0) sp sS fa fc fl vo na (pa_zr rm ((s * 8 + t) * 8) K) (pa_zr wm ((s * 8 + t) * 8) K) sW ft) :=
  ⟨h.1, gu_upd h.2.1 h.1.2.2.1.2 s t ht (Or.inl rfl), ge_upd h.2.2.1 _ (fun _ => Or.inl rfl), gv_far h.2.2.2.1 _ (by omega), gm_clear h.2.2.2.2.1 h.1.2.1.2 _, h.2.2.2.2.2.1, h.2.2.2.2.2.2.1, h.2.2.2.2.2.2.2⟩
theorem g_clear0 (h : (pa_G S K T C up uY en me ye re ac rM wM sp sS fa fc fl vo na rm wm sW ft)) (t : Nat) (ht : t < 8) (hv : ∀ t' s, t' < 8 → t' ≠ t → vo' (s * 8 + t') = vo (s * 8 + t')) : (pa_G S K T C up uY (upd en t 0) (upd me t 0) (upd ye t 0) (upd re t 0) (upd ac t 0) (upd rM t 0) (upd wM t 0) sp sS fa fc fl (pa_vz vo' t S) na (pa_zr rm (t * 8) K) (pa_zr wm (t * 8) K) sW ft) :=
  ⟨h.1, gu_upd0 h.2.1 h.1.2.2.1.2 t ht (Or.inl rfl), ge_upd h.2.2.1 _ (fun _ => Or.inl rfl), gv_clear h.2.2.2.1 t ht hv, gm_clear h.2.2.2.2.1 h.1.2.1.2 _, h.2.2.2.2.2.1, h.2.2.2.2.2.2.1, h.2.2.2.2.2.2.2⟩
theorem g_prep (h : (pa_G S K T C up uY en me ye re ac rM wM sp sS fa fc fl vo na rm wm sW ft)) (s t m : Nat) (h1 : 1 ≤ s) (hs : s < 5) (ht : t < 8) (hu : ¬ up s = 0) : (pa_G S K T C up uY (upd en (s * 8 + t) 3) me ye re ac (upd rM (s * 8 + t) 0) wM (upd (pa_hd fa s sp m) (s * 8 + t) 3) (upd (pa_hd fa s sS m) (s * 8 + t) (wM (s * 8 + t))) fa (upd fc s 0) fl vo na (pa_zr rm ((s * 8 + t) * 8) K) wm (pa_cp sW wm ((s * 8 + t) * 8) K) ft) := by
  obtain ⟨sz, gu, ge, gv, gm, gs, gf, gl⟩ := h
  obtain ⟨a1, a2, a3, a4, a5⟩ := gm (s * 8 + t) (by omega)
  exact ⟨sz, gu_upd gu sz.2.2.1.2 s t ht (Or.inr hu), ge_upd ge _ (fun _ => Or.inr (Or.inr rfl)), gv_far gv _ (by omega), gm_prep gm sz.2.1.2 _ (by omega), gs_prep (gs_hd gs s m) sz.2.1.2 _ (by omega) a2 a5, gf, gl_zero gl s⟩
theorem g_owe (h : (pa_G S K T C up uY en me ye re ac rM wM sp sS fa fc fl vo na rm wm sW ft)) (t : Nat) (ht : t < 8) (h4 : sp t = 4) (hy : ye t = 0) (hr : re t = 0) (hm : me t = 0) (hu : ¬ up 0 = 0) :
    (pa_G S K T C up uY (upd en t 4) (upd me t (sS t)) ye re (upd ac t 0) rM wM sp sS fa fc (pa_sd C (fun s => 5 * 40 + s * 8 + t) (bt (sS t)) fl S) (pa_ow na vo t S) na rm wm sW (pa_sd C (fun s => (5 * 8 + t) * 5 + s) (pa_nQ na t) ft S)) := by
  obtain ⟨sz, gu, ge, gv, gm, gs, gf, gl⟩ := h
  obtain ⟨q1, q2⟩ := (gs.1 t ht).2 h4
  refine ⟨sz, gu_upd0 gu sz.2.2.1.2 t ht (Or.inr hu), ge_upd ge _ (fun z => absurd z (by omega)), ?_, gm_en gm t (by omega) (by decide), gs, ?_, gl⟩
  · refine gv_upd gv t (fun t' ht' hne => ⟨pk_un hne, pk_un hne, rfl, rfl, pk_un hne, fun s g1 g2 => ?_⟩) ?_
    · rw [pa_ow_eq _ _ _ _ _ _ ht ht', if_neg (fun z => hne z.1)]
    · rw [pk_us, pk_us, pk_us, hy, hr]
      refine v1_owe q1 fun s g1 g2 => ?_
      show pa_ow na vo t S (s * 8 + t) = _
      have hz : vo (s * 8 + t) = 0 := (v1_z0 (gv t ht) g1 g2).mpr (by rw [hm, b_0])
      rw [pa_ow_eq _ _ _ _ _ _ ht ht, if_pos ⟨rfl, g1, g2⟩, q2 s g1 g2]
      cases bt (sS t) s
      · exact hz
      · rfl
  · refine gf_sd gf sz.2.2.2.2 5 t (by decide) ht S sz.1.2 fun s g1 g2 => ?_
    unfold pa_nQ
    rw [q2 s g1 g2]
    cases bt (sS t) s <;> rfl
end
end
section
/-! both sides in step: what a message does -/
theorem pa_some {w : Int32} (h : ¬ w = 0) : ∃ i, bt w i = true := by
  refine Classical.byContradiction fun z => h ((pa_eq0 w).mpr fun i => ?_)
  cases hb : bt w i with
  | false => rfl
  | true => exact absurd ⟨i, hb⟩ z
section
variable {S K T C : Nat} {up uY en me ye re ac rM wM sv sp sS ss cv fa fc de fl vo na rm wm sW ft : Nat → Int32}
theorem lk_prep (h : (pa_G S K T C up uY en me ye re ac rM wM sp sS fa fc fl vo na rm wm sW ft)) (s t : Nat) (h1 : 1 ≤ s) (hs : s ≤ S) (ht : t < T) (hu : ¬ up s = 0) :
    pa_L S K T C (fun p => wpX_receiveAtStore p (nI S, nI K, nI T, nI C, up, en, me, ye, re, ac, rM, wM, sv, sp, sS, ss, cv, fa, fc, de, fl) 0 (nI t) (nI s)) (fun p => wpY_atStore p (nI S, nI K, nI T, nI C, uY, en, sp, de, vo, na, rm, wm, sv, sW, ss, cv, ft, fa, fc) 0 (nI t) (nI s)) := by
  obtain ⟨⟨_, hS⟩, ⟨_, hK⟩, ⟨_, hT⟩, ⟨_, hC⟩⟩ := h.1
  have hs5 : s < 5 := by omega
  have ht8 : t < 8 := by omega
  rcases h.2.2.1 (s * 8 + t) (by omega) (by omega) with he | he | he
  · exact ⟨_, _, pa_mk (g_snd h 2 s t (by decide) hs5 ht8), fun p hp => br_t rfl (xw_rp0 s t hs5 ht8 he hp), fun p hp => ys_p0 s t hs5 ht8 he hp⟩
  · obtain ⟨a1, a2, a3, a4, a5⟩ := h.2.2.2.2.1 (s * 8 + t) (by omega)
    by_cases hw : wM (s * 8 + t) = 0
    · have hz : ∀ k, k < K → wm ((s * 8 + t) * 8 + k) = 0 := fun k hk => by
        have z := a5 k hk
        rw [hw, b_0] at z
        exact z
      exact ⟨_, _, pa_mk (g_snd (g_clearS h s t h1 ht8) 3 s t (by decide) hs5 ht8), fun p hp => br_t rfl (xw_rpR s t h1 hs5 ht8 he hw hp), fun p hp => ys_pR s t h1 hs5 ht8 hK he hz hp⟩
    · obtain ⟨m, hm, em⟩ := h.2.2.2.2.2.2.2.2 s hs5
      obtain ⟨w, hw1⟩ := pa_some hw
      have hwK := a2 w hw1
      have hn : ∀ k, k < K → vp_nar .boolean (wm ((s * 8 + t) * 8 + k)) = wm ((s * 8 + t) * 8 + k) := fun k hk => by
        have z : wm ((s * 8 + t) * 8 + k) = pa_b (bt (wM (s * 8 + t)) k) := a5 k hk
        rw [z, pa_nbb]
      have hww : ¬ wm ((s * 8 + t) * 8 + w) = 0 := by
        have z : wm ((s * 8 + t) * 8 + w) = pa_b (bt (wM (s * 8 + t)) w) := a5 w hwK
        rw [z, hw1]
        decide
      have hfa := h.2.2.2.2.2.2.2.1
      exact ⟨_, _, pa_mk (g_snd (g_prep h s t m h1 hs5 ht8 hu) 1 s t (by decide) hs5 ht8), fun p hp => br_t rfl (xw_rpW s t m hs5 ht8 hK hm hfa em he hw hp), fun p hp => ys_pW s t m w hs5 ht8 hK hm hfa em he hn hwK hww hp⟩
  · exact ⟨_, _, pa_mk (g_snd h 1 s t (by decide) hs5 ht8), fun p hp => br_t rfl (xw_rp3 s t hs5 ht8 he hp), fun p hp => ys_p3 s t hs5 ht8 he hp⟩
theorem lk_com (h : (pa_G S K T C up uY en me ye re ac rM wM sp sS fa fc fl vo na rm wm sW ft)) (s t : Nat) (h1 : 1 ≤ s) (hs : s ≤ S) (ht : t < T) :
    pa_L S K T C (fun p => wpX_receiveAtStore p (nI S, nI K, nI T, nI C, up, en, me, ye, re, ac, rM, wM, sv, sp, sS, ss, cv, fa, fc, de, fl) 5 (nI t) (nI s)) (fun p => wpY_atStore p (nI S, nI K, nI T, nI C, uY, en, sp, de, vo, na, rm, wm, sv, sW, ss, cv, ft, fa, fc) 5 (nI t) (nI s)) := by
  obtain ⟨⟨_, hS⟩, ⟨_, hK⟩, ⟨_, hT⟩, ⟨_, hC⟩⟩ := h.1
  have hs5 : s < 5 := by omega
  have ht8 : t < 8 := by omega
  by_cases he : en (s * 8 + t) = 3
  · obtain ⟨a1, a2, a3, a4, a5⟩ := h.2.2.2.2.1 (s * 8 + t) (by omega)
    obtain ⟨m, hm, em⟩ := h.2.2.2.2.2.2.2.2 s hs5
    have hfa := h.2.2.2.2.2.2.2.1
    exact ⟨_, _, pa_mk (g_snd (g_hd (g_clrS (g_clearS h s t h1 ht8) (s * 8 + t)) s m) 7 s t (by decide) hs5 ht8), fun p hp => br_f (by decide) (br_t rfl (xw_rc3 s t m h1 hs5 ht8 hK hm hfa em he hp)), fun p hp => ys_c3 s t m h1 hs5 ht8 hK hm hfa em he a5 hp⟩
  · exact ⟨_, _, pa_mk (g_snd h 7 s t (by decide) hs5 ht8), fun p hp => br_f (by decide) (br_t rfl (xw_rcN s t hs5 ht8 he hp)), fun p hp => ys_cN s t hs5 ht8 he hp⟩
theorem lk_abt (h : (pa_G S K T C up uY en me ye re ac rM wM sp sS fa fc fl vo na rm wm sW ft)) (s t : Nat) (h1 : 1 ≤ s) (hs : s ≤ S) (ht : t < T) :
    pa_L S K T C (fun p => wpX_receiveAtStore p (nI S, nI K, nI T, nI C, up, en, me, ye, re, ac, rM, wM, sv, sp, sS, ss, cv, fa, fc, de, fl) 6 (nI t) (nI s)) (fun p => wpY_atStore p (nI S, nI K, nI T, nI C, uY, en, sp, de, vo, na, rm, wm, sv, sW, ss, cv, ft, fa, fc) 6 (nI t) (nI s)) := by
  obtain ⟨⟨_, hS⟩, ⟨_, hK⟩, ⟨_, hT⟩, ⟨_, hC⟩⟩ := h.1
  have hs5 : s < 5 := by omega
  have ht8 : t < 8 := by omega
  rcases h.2.2.1 (s * 8 + t) (by omega) (by omega) with he | he | he
  · exact ⟨_, _, pa_mk h, fun p hp => br_f (by decide) (br_f (by decide) (xw_ra0 s t hs5 ht8 he hp)), fun p hp => ys_a0 s t hs5 ht8 he hp⟩
  · exact ⟨_, _, pa_mk (g_clearS h s t h1 ht8), fun p hp => br_f (by decide) (br_f (by decide) (xw_ra1 s t h1 hs5 ht8 he hp)), fun p hp => ys_a1 s t h1 hs5 ht8 hK he hp⟩
  · obtain ⟨m, hm, em⟩ := h.2.2.2.2.2.2.2.2 s hs5
    exact ⟨_, _, pa_mk (g_note (g_clearS h s t h1 ht8) s t hs5 ht8), fun p hp => br_f (by decide) (br_f (by decide) (xw_ra3 s t m h1 hs5 ht8 hm em he hp)), fun p hp => ys_a3 s t m h1 hs5 ht8 hK hm em he hp⟩
theorem lk_inq (h : (pa_G S K T C up uY en me ye re ac rM wM sp sS fa fc fl vo na rm wm sW ft)) (s t : Nat) (hs : s ≤ S) (ht : t < T) :
    pa_L S K T C (fun p => wpX_receiveAtCoordinator p (nI S, nI K, nI T, nI C, up, en, me, ye, re, ac, rM, wM, sv, sp, sS, ss, cv, fa, fc, de, fl) 4 (nI t) (nI s)) (fun p => wpY_atCoordinator p (nI S, nI K, nI T, nI C, uY, en, sp, de, vo, na, rm, wm, sv, sW, ss, cv, ft, fa, fc) 4 (nI t) (nI s)) := by
  obtain ⟨⟨_, hS⟩, ⟨_, hK⟩, ⟨_, hT⟩, ⟨_, hC⟩⟩ := h.1
  have hs5 : s < 5 := by omega
  have ht8 : t < 8 := by omega
  by_cases h0 : en t = 0
  · exact ⟨_, _, pa_mk (g_snd h 6 s t (by decide) hs5 ht8), fun p hp => br_t rfl (xw_ai0 s t hs5 ht8 h0 hp), fun p hp => yc_i0 s t hs5 ht8 h0 hp⟩
  by_cases h4 : en t = 4
  · exact ⟨_, _, pa_mk (g_snd h 5 s t (by decide) hs5 ht8), fun p hp => br_t rfl (xw_ai4 s t hs5 ht8 h4 hp), fun p hp => yc_i4 s t hs5 ht8 h4 hp⟩
  · exact ⟨_, _, pa_mk h, fun p hp => br_t rfl (xw_aiN s t ht8 h0 h4 hp), fun p hp => yc_iN s t hs5 ht8 h0 h4 hp⟩
theorem g_ack (h : (pa_G S K T C up uY en me ye re ac rM wM sp sS fa fc fl vo na rm wm sW ft)) (s t : Nat) (hs : s ≤ S) (ht : t < 8) (h4 : en t = 4) (hm : bt (me t) s = true) :
    (pa_G S K T C up uY en me ye re (upd ac t (ac t ||| ((1 : Int32) <<< (nI s &&& 31)))) rM wM sp sS fa fc fl (upd vo (s * 8 + t) 5) na rm wm sW ft) := by
  obtain ⟨sz, gu, ge, gv, gm, gs, gf, gl⟩ := h
  have v := gv t ht
  rw [h4] at v
  refine ⟨sz, gu, ge, gv_upd gv t (fun t' ht' hne => ⟨rfl, rfl, rfl, rfl, pk_un hne, fun s' g1 g2 => pk_un (by omega)⟩) ?_, gm, gs, gf, gl⟩
  rw [pk_us, h4]
  exact v1_ack v hs sz.1.2 hm (show upd vo (s * 8 + t) 5 (s * 8 + t) = 5 from pk_us) (fun s' hne => pk_un (by omega))
theorem lk_ack (h : (pa_G S K T C up uY en me ye re ac rM wM sp sS fa fc fl vo na rm wm sW ft)) (s t : Nat) (h1 : 1 ≤ s) (hs : s ≤ S) (ht : t < T) :
    pa_L S K T C (fun p => wpX_receiveAtCoordinator p (nI S, nI K, nI T, nI C, up, en, me, ye, re, ac, rM, wM, sv, sp, sS, ss, cv, fa, fc, de, fl) 7 (nI t) (nI s)) (fun p => wpY_atCoordinator p (nI S, nI K, nI T, nI C, uY, en, sp, de, vo, na, rm, wm, sv, sW, ss, cv, ft, fa, fc) 7 (nI t) (nI s)) := by
  obtain ⟨⟨_, hS⟩, ⟨_, hK⟩, ⟨_, hT⟩, ⟨_, hC⟩⟩ := h.1
  have hs5 : s < 5 := by omega
  have ht8 : t < 8 := by omega
  by_cases h4 : en t = 4
  · have v := h.2.2.2.1 t ht8
    have hz : vo (s * 8 + t) = 4 ↔ bt (me t &&& (ac t ^^^ (-1))) s = true := v1_z4 v h4 h1 hs
    rw [pa_ac] at hz
    by_cases hb : (bt (me t) s && !bt (ac t) s) = true
    · have hv := hz.mpr hb
      have hm : bt (me t) s = true := by
        rw [Bool.and_eq_true] at hb
        exact hb.1
      have hl := v1_acks (v' := fun s' => upd vo (s * 8 + t) 5 (s' * 8 + t)) v h4 hS hs (by show ¬ upd vo (s * 8 + t) 5 (s * 8 + t) = 4; rw [pk_us]; decide) (fun s' hne => pk_un (by omega))
      have hc := pa_ct0 (upd vo (s * 8 + t) 5) t 4 S
      by_cases hn : (me t &&& ((ac t ||| ((1 : Int32) <<< (nI s &&& 31))) ^^^ (-1))) = 0
      · obtain ⟨m, hm8, em⟩ := h.2.2.2.2.2.2.2.2 0 (by omega)
        exact ⟨_, _, pa_mk (g_note (g_clear0 (vo' := upd vo (s * 8 + t) 5) h t ht8 (fun t' s' ht' hne => pk_un (by omega))) 0 t (by decide) ht8), fun p hp => br_f (by decide) (br_t rfl (xw_ak2 s t m hs5 ht8 hm8 em h4 hb hn hp)), fun p hp => yc_ak2 s t m hs5 ht8 hS hK hm8 em h4 hv (hc.mpr (hl.mp hn)) hp⟩
      · exact ⟨_, _, pa_mk (g_ack h s t hs ht8 h4 hm), fun p hp => br_f (by decide) (br_t rfl (xw_ak1 s t hs5 ht8 h4 hb hn hp)), fun p hp => yc_ak1 s t hs5 ht8 hS h4 hv (fun z => hn (hl.mpr (hc.mp z))) hp⟩
    · exact ⟨_, _, pa_mk h, fun p hp => br_f (by decide) (br_t rfl (xw_ak0 s t hs5 ht8 h4 (Bool.eq_false_iff.mpr hb) hp)), fun p hp => yc_akN s t hs5 ht8 (fun z => hb (hz.mp z.2)) hp⟩
  · exact ⟨_, _, pa_mk h, fun p hp => br_f (by decide) (br_t rfl (xw_akN s t ht8 h4 hp)), fun p hp => yc_akN s t hs5 ht8 (fun z => h4 z.1) hp⟩
theorem lk_decide (h : (pa_G S K T C up uY en me ye re ac rM wM sp sS fa fc fl vo na rm wm sW ft)) (t : Nat) (ht8 : t < 8) (h2 : en t = 2) (hu : ¬ up 0 = 0) :
    pa_L S K T C (fun p => wpX_decide p (nI S, nI K, nI T, nI C, up, en, me, ye, re, ac, rM, wM, sv, sp, sS, ss, cv, fa, fc, de, fl) (nI t)) (fun p => wpY_decide p (nI S, nI K, nI T, nI C, uY, en, sp, de, vo, na, rm, wm, sv, sW, ss, cv, ft, fa, fc) (nI t)) := by
  obtain ⟨⟨_, hS⟩, ⟨_, hK⟩, ⟨_, hT⟩, ⟨_, hC⟩⟩ := h.1
  have h4 : ¬ en t = 4 := by rw [h2]; decide
  have v := h.2.2.2.1 t ht8
  have hy0 := v1_yes0 v h4
  have hc := pa_ct0 vo t 2 S
  have G1 := g_clear0 (vo' := vo) h t ht8 (fun _ _ _ _ => rfl)
  by_cases hy : ye t = 0
  · exact ⟨_, _, pa_mk G1, fun p hp => xw_dec0 t ht8 hy hp, fun p hp => yw_dec0 t hS ht8 hK (hc.mpr (hy0.mp hy)) hp⟩
  · obtain ⟨m, hm, em⟩ := h.2.2.2.2.2.2.2.2 0 (by omega)
    have hfa := h.2.2.2.2.2.2.2.1
    obtain ⟨sz, gu, ge, gv, gm, gs, gf, gl⟩ := g_hd G1 0 m
    have gs' := gs_dec (vo := vo) (y := ye t) gs t ht8 (fun i hi => v.2.1 i (v.2.2.1 i hi).1) (fun s g1 g2 => v1_z2 v h4 g1 g2)
    have G4 := g_owe ⟨sz, gu, ge, gv, gm, gs', gf, gl⟩ t ht8 pk_us pk_us pk_us pk_us hu
    rw [pk_us (f := pa_hd fa 0 sS m) (k := t) (x := ye t)] at G4
    exact ⟨_, _, pa_mk G4, fun p hp => xw_dec1 t m hS ht8 hm hfa em hy hp, fun p hp => yw_dec1 t m hS ht8 hK hm hfa em (fun z => hy (hy0.mpr (hc.mp z))) hp⟩
theorem xw_96d {post : SX → Prop} {U : SX} {x4 x5 : Int32} (t : Nat) (hl : x5 = x4) (hA : ∀ q : SX → Prop, q U → wpX_decide q (nI S, nI K, nI T, nI C, up, en, me, ye, re, ac, rM, wM, sv, sp, sS, ss, cv, fa, fc, de, fl) (nI t)) (h : post U) : wX_receiveVote_96 post (nI t) x4 x5 (nI S) (nI K) (nI T) (nI C) up en me ye re ac rM wM sv sp sS ss cv fa fc de fl := by
  obtain ⟨b1, b2, b3, b4, b5, b6, b7, b8, b9, b10, b11, b12, b13, b14, b15, b16, b17, b18, b19, b20, b21⟩ := U
  exact br_t hl (hA _ h)
theorem g_yes (h : (pa_G S K T C up uY en me ye re ac rM wM sp sS fa fc fl vo na rm wm sW ft)) (s t : Nat) (hs : s ≤ S) (ht : t < 8) (h2 : en t = 2) (hb : bt (me t &&& ((ye t ||| re t) ^^^ (-1))) s = true) :
    (pa_G S K T C up uY en me (upd ye t (ye t ||| ((1 : Int32) <<< (nI s &&& 31)))) re ac rM wM sp sS fa fc fl (upd vo (s * 8 + t) 2) na rm wm sW ft) := by
  obtain ⟨sz, gu, ge, gv, gm, gs, gf, gl⟩ := h
  have v := gv t ht
  rw [h2] at v
  refine ⟨sz, gu, ge, gv_upd gv t (fun t' ht' hne => ⟨rfl, rfl, pk_un hne, rfl, rfl, fun s' g1 g2 => pk_un (by omega)⟩) ?_, gm, gs, gf, gl⟩
  rw [pk_us, h2]
  exact v1_yes v hs sz.1.2 hb (show upd vo (s * 8 + t) 2 (s * 8 + t) = 2 from pk_us) (fun s' hne => pk_un (by omega))
theorem g_read (h : (pa_G S K T C up uY en me ye re ac rM wM sp sS fa fc fl vo na rm wm sW ft)) (s t : Nat) (hs : s ≤ S) (ht : t < 8) (h2 : en t = 2) (hb : bt (me t &&& ((ye t ||| re t) ^^^ (-1))) s = true) :
    (pa_G S K T C up uY en me ye (upd re t (re t ||| ((1 : Int32) <<< (nI s &&& 31)))) ac rM wM sp sS fa fc fl (upd vo (s * 8 + t) 3) na rm wm sW ft) := by
  obtain ⟨sz, gu, ge, gv, gm, gs, gf, gl⟩ := h
  have v := gv t ht
  rw [h2] at v
  refine ⟨sz, gu, ge, gv_upd gv t (fun t' ht' hne => ⟨rfl, rfl, rfl, pk_un hne, rfl, fun s' g1 g2 => pk_un (by omega)⟩) ?_, gm, gs, gf, gl⟩
  rw [pk_us, h2]
  exact v1_read v hs sz.1.2 hb (show upd vo (s * 8 + t) 3 (s * 8 + t) = 3 from pk_us) (fun s' hne => pk_un (by omega))
theorem g_abort (h : (pa_G S K T C up uY en me ye re ac rM wM sp sS fa fc fl vo na rm wm sW ft)) (t x : Nat) (ht : t < 8) (he : ¬ en t = 4) (hx : x < 5) :
    (pa_G S K T C up uY (upd en t 0) (upd me t 0) (upd ye t 0) (upd re t 0) (upd ac t 0) (upd rM t 0) (upd wM t 0) sp sS fa fc (pa_sd C (fun s => 6 * 40 + s * 8 + t) (bt (pa_aset (me t) (re t) x)) fl S) (pa_vz vo t S) na (pa_zr rm (t * 8) K) (pa_zr wm (t * 8) K) sW (pa_sd C (fun s => (6 * 8 + t) * 5 + s) (pa_aQ vo t x) ft S)) := by
  have v := h.2.2.2.1 t ht
  refine g_clear0 (g_sd h 6 t (by decide) ht fun s g1 g2 => ?_) t ht (fun _ _ _ _ => rfl)
  have z0 : vo (s * 8 + t) = 0 ↔ bt (me t) s = false := v1_z0 v g1 g2
  have z3 : vo (s * 8 + t) = 3 ↔ bt (re t) s = true := v1_z3 v he g1 g2
  unfold pa_aset pa_aQ
  rw [Bool.eq_iff_iff, pa_ac, pa_ac, pa_bt1 (show x < 32 by omega), decide_eq_true_eq, z0, z3]
  cases bt (me t) s <;> cases bt (re t) s <;> simp
end
section
variable {S K T C : Nat} {up uY en me ye re ac rM wM sv sp sS ss cv fa fc de fl vo na rm wm sW ft : Nat → Int32}
theorem lk_vote1 (h : (pa_G S K T C up uY en me ye re ac rM wM sp sS fa fc fl vo na rm wm sW ft)) (s t : Nat) (h1 : 1 ≤ s) (hs : s ≤ S) (ht : t < T) (hu : ¬ up 0 = 0) :
    pa_L S K T C (fun p => wpX_receiveAtCoordinator p (nI S, nI K, nI T, nI C, up, en, me, ye, re, ac, rM, wM, sv, sp, sS, ss, cv, fa, fc, de, fl) 1 (nI t) (nI s)) (fun p => wpY_atCoordinator p (nI S, nI K, nI T, nI C, uY, en, sp, de, vo, na, rm, wm, sv, sW, ss, cv, ft, fa, fc) 1 (nI t) (nI s)) := by
  obtain ⟨⟨_, hS⟩, ⟨_, hK⟩, ⟨_, hT⟩, ⟨_, hC⟩⟩ := h.1
  have hs5 : s < 5 := by omega
  have ht8 : t < 8 := by omega
  by_cases h0 : en t = 0
  · exact ⟨_, _, pa_mk (g_snd h 6 s t (by decide) hs5 ht8), fun p hp => br_f (by decide) (br_f (by decide) (xw_rv01 s t hs5 ht8 h0 hp)), fun p hp => yc_v1e0 s t hs5 ht8 h0 hp⟩
  by_cases h2 : en t = 2
  · have h4 : ¬ en t = 4 := by rw [h2]; decide
    have v := h.2.2.2.1 t ht8
    have hz : vo (s * 8 + t) = 1 ↔ bt (me t &&& ((ye t ||| re t) ^^^ (-1))) s = true := v1_z1 v h4 h1 hs
    by_cases hb : bt (me t &&& ((ye t ||| re t) ^^^ (-1))) s = true
    · have hv := hz.mpr hb
      have hl := v1_last (v' := fun s' => upd vo (s * 8 + t) 2 (s' * 8 + t)) v h4 hS hs hb (by show ¬ upd vo (s * 8 + t) 2 (s * 8 + t) = 1; rw [pk_us]; decide) (fun s' hne => pk_un (by omega))
      have hc := pa_ct0 (upd vo (s * 8 + t) 2) t 1 S
      have G' := g_yes h s t hs ht8 h2 hb
      by_cases hn : (me t &&& ((ye t ||| re t) ^^^ (-1))) = ((1 : Int32) <<< (nI s &&& 31))
      · obtain ⟨u', v', hR, hA, hB⟩ := lk_decide (sv := sv) (ss := ss) (cv := cv) (de := de) G' t ht8 h2 hu
        exact ⟨u', v', hR, fun p hp => br_f (by decide) (br_f (by decide) (xw_rvY s t hs5 ht8 h2 hb (xw_96d t hn hA hp))), fun p hp => yc_v1d s t hs5 ht8 hS h2 hv (hc.mpr (hl.mp hn)) hB hp⟩
      · exact ⟨_, _, pa_mk G', fun p hp => br_f (by decide) (br_f (by decide) (xw_rvY s t hs5 ht8 h2 hb (br_f hn hp))), fun p hp => yc_v1o s t hs5 ht8 hS h2 hv (fun z => hn (hl.mpr (hc.mp z))) hp⟩
    · exact ⟨_, _, pa_mk h, fun p hp => br_f (by decide) (br_f (by decide) (xw_rv2N s t 1 hs5 ht8 h2 (Bool.eq_false_iff.mpr hb) hp)), fun p hp => yc_v1n s t hs5 ht8 h0 (fun z => hb (hz.mp z.2)) hp⟩
  · exact ⟨_, _, pa_mk h, fun p hp => br_f (by decide) (br_f (by decide) (xw_rvN s t 1 ht8 h0 h2 hp)), fun p hp => yc_v1n s t hs5 ht8 h0 (fun z => h2 z.1) hp⟩
theorem lk_vote3 (h : (pa_G S K T C up uY en me ye re ac rM wM sp sS fa fc fl vo na rm wm sW ft)) (s t : Nat) (h1 : 1 ≤ s) (hs : s ≤ S) (ht : t < T) (hu : ¬ up 0 = 0) :
    pa_L S K T C (fun p => wpX_receiveAtCoordinator p (nI S, nI K, nI T, nI C, up, en, me, ye, re, ac, rM, wM, sv, sp, sS, ss, cv, fa, fc, de, fl) 3 (nI t) (nI s)) (fun p => wpY_atCoordinator p (nI S, nI K, nI T, nI C, uY, en, sp, de, vo, na, rm, wm, sv, sW, ss, cv, ft, fa, fc) 3 (nI t) (nI s)) := by
  obtain ⟨⟨_, hS⟩, ⟨_, hK⟩, ⟨_, hT⟩, ⟨_, hC⟩⟩ := h.1
  have hs5 : s < 5 := by omega
  have ht8 : t < 8 := by omega
  by_cases h0 : en t = 0
  · exact ⟨_, _, pa_mk h, fun p hp => br_f (by decide) (br_f (by decide) (xw_rv0N s t 3 ht8 (by decide) h0 hp)), fun p hp => yc_v23n 3 s t hs5 ht8 (Or.inr rfl) (fun z => absurd (h0.symm.trans z.1) (by decide)) hp⟩
  by_cases h2 : en t = 2
  · have h4 : ¬ en t = 4 := by rw [h2]; decide
    have v := h.2.2.2.1 t ht8
    have hz : vo (s * 8 + t) = 1 ↔ bt (me t &&& ((ye t ||| re t) ^^^ (-1))) s = true := v1_z1 v h4 h1 hs
    by_cases hb : bt (me t &&& ((ye t ||| re t) ^^^ (-1))) s = true
    · have hv := hz.mpr hb
      have hl := v1_last (v' := fun s' => upd vo (s * 8 + t) 3 (s' * 8 + t)) v h4 hS hs hb (by show ¬ upd vo (s * 8 + t) 3 (s * 8 + t) = 1; rw [pk_us]; decide) (fun s' hne => pk_un (by omega))
      have hc := pa_ct0 (upd vo (s * 8 + t) 3) t 1 S
      have G' := g_read h s t hs ht8 h2 hb
      by_cases hn : (me t &&& ((ye t ||| re t) ^^^ (-1))) = ((1 : Int32) <<< (nI s &&& 31))
      · obtain ⟨u', v', hR, hA, hB⟩ := lk_decide (sv := sv) (ss := ss) (cv := cv) (de := de) G' t ht8 h2 hu
        exact ⟨u', v', hR, fun p hp => br_f (by decide) (br_f (by decide) (xw_rvR s t hs5 ht8 h2 hb (xw_96d t hn hA hp))), fun p hp => yc_v3d s t hs5 ht8 hS h2 hv (hc.mpr (hl.mp hn)) hB hp⟩
      · exact ⟨_, _, pa_mk G', fun p hp => br_f (by decide) (br_f (by decide) (xw_rvR s t hs5 ht8 h2 hb (br_f hn hp))), fun p hp => yc_v3o s t hs5 ht8 hS h2 hv (fun z => hn (hl.mpr (hc.mp z))) hp⟩
    · exact ⟨_, _, pa_mk h, fun p hp => br_f (by decide) (br_f (by decide) (xw_rv2N s t 3 hs5 ht8 h2 (Bool.eq_false_iff.mpr hb) hp)), fun p hp => yc_v23n 3 s t hs5 ht8 (Or.inr rfl) (fun z => hb (hz.mp z.2)) hp⟩
  · exact ⟨_, _, pa_mk h, fun p hp => br_f (by decide) (br_f (by decide) (xw_rvN s t 3 ht8 h0 h2 hp)), fun p hp => yc_v23n 3 s t hs5 ht8 (Or.inr rfl) (fun z => h2 z.1) hp⟩
theorem lk_vote2 (h : (pa_G S K T C up uY en me ye re ac rM wM sp sS fa fc fl vo na rm wm sW ft)) (s t : Nat) (h1 : 1 ≤ s) (hs : s ≤ S) (ht : t < T) :
    pa_L S K T C (fun p => wpX_receiveAtCoordinator p (nI S, nI K, nI T, nI C, up, en, me, ye, re, ac, rM, wM, sv, sp, sS, ss, cv, fa, fc, de, fl) 2 (nI t) (nI s)) (fun p => wpY_atCoordinator p (nI S, nI K, nI T, nI C, uY, en, sp, de, vo, na, rm, wm, sv, sW, ss, cv, ft, fa, fc) 2 (nI t) (nI s)) := by
  obtain ⟨⟨_, hS⟩, ⟨_, hK⟩, ⟨_, hT⟩, ⟨_, hC⟩⟩ := h.1
  have hs5 : s < 5 := by omega
  have ht8 : t < 8 := by omega
  by_cases h0 : en t = 0
  · exact ⟨_, _, pa_mk h, fun p hp => br_f (by decide) (br_f (by decide) (xw_rv0N s t 2 ht8 (by decide) h0 hp)), fun p hp => yc_v23n 2 s t hs5 ht8 (Or.inl rfl) (fun z => absurd (h0.symm.trans z.1) (by decide)) hp⟩
  by_cases h2 : en t = 2
  · have h4 : ¬ en t = 4 := by rw [h2]; decide
    have v := h.2.2.2.1 t ht8
    have hz : vo (s * 8 + t) = 1 ↔ bt (me t &&& ((ye t ||| re t) ^^^ (-1))) s = true := v1_z1 v h4 h1 hs
    by_cases hb : bt (me t &&& ((ye t ||| re t) ^^^ (-1))) s = true
    · exact ⟨_, _, pa_mk (g_abort h t s ht8 h4 hs5), fun p hp => br_f (by decide) (br_f (by decide) (xw_rvA s t hS hs5 ht8 h2 hb hp)), fun p hp => yc_v2o s t hs5 ht8 hS hK h2 (hz.mpr hb) hp⟩
    · exact ⟨_, _, pa_mk h, fun p hp => br_f (by decide) (br_f (by decide) (xw_rv2N s t 2 hs5 ht8 h2 (Bool.eq_false_iff.mpr hb) hp)), fun p hp => yc_v23n 2 s t hs5 ht8 (Or.inl rfl) (fun z => hb (hz.mp z.2)) hp⟩
  · exact ⟨_, _, pa_mk h, fun p hp => br_f (by decide) (br_f (by decide) (xw_rvN s t 2 ht8 h0 h2 hp)), fun p hp => yc_v23n 2 s t hs5 ht8 (Or.inl rfl) (fun z => h2 z.1) hp⟩
end
end
section
/-! deliver -/
section
variable {S K T C : Nat} {up uY en me ye re ac rM wM sv sp sS ss cv fa fc de fl vo na rm wm sW ft : Nat → Int32}
theorem xw_isTx {post : Int32 → Prop} (t : Nat) (ht : t < T) (hT : T ≤ 8) (h : post 1) : wpX_isTx post (nI S, nI K, nI T, nI C, up, en, me, ye, re, ac, rM, wM, sv, sp, sS, ss, cv, fa, fc, de, fl) (nI t) :=
  br_f (nI_pos (by omega)) (br_f (nI_ge ht (by omega)) h)
theorem xw_isStore {post : Int32 → Prop} (s : Nat) (h1 : 1 ≤ s) (hs : s ≤ S) (hS : S ≤ 4) (h : post 1) : wpX_isStore post (nI S, nI K, nI T, nI C, up, en, me, ye, re, ac, rM, wM, sv, sp, sS, ss, cv, fa, fc, de, fl) (nI s) :=
  br_f (nI_nlt (b := 1) h1 (by omega)) (br_f (nI_nlt hs (by omega)) h)
theorem xw_isSite {post : Int32 → Prop} (s : Nat) (hs : s ≤ S) (hS : S ≤ 4) (h : post 1) : wpX_isSite post (nI S, nI K, nI T, nI C, up, en, me, ye, re, ac, rM, wM, sv, sp, sS, ss, cv, fa, fc, de, fl) (nI s) :=
  br_f (nI_pos (by omega)) (br_f (nI_nlt hs (by omega)) h)
theorem xw_isKey {post : Int32 → Prop} (k : Nat) (hk : k < K) (hK : K ≤ 8) (h : post 1) : wpX_isKey post (nI S, nI K, nI T, nI C, up, en, me, ye, re, ac, rM, wM, sv, sp, sS, ss, cv, fa, fc, de, fl) (nI k) :=
  br_f (nI_pos (by omega)) (br_f (nI_ge hk (by omega)) h)
theorem xw_isMsg {post : Int32 → Prop} (k t s : Nat) (hk : k < 8) (ht : t < T) (hT : T ≤ 8) (h1 : 1 ≤ s) (hs : s ≤ S) (hS : S ≤ 4) (h : post 1) : wpX_isMessage post (nI S, nI K, nI T, nI C, up, en, me, ye, re, ac, rM, wM, sv, sp, sS, ss, cv, fa, fc, de, fl) (nI k) (nI t) (nI s) :=
  br_f (nI_pos (by omega)) (br_f (nI_ge (b := 8) hk (by decide)) (xw_isTx t ht hT (br_f (by decide) (xw_isStore s h1 hs hS (br_f (by decide) h)))))
theorem yw_badT {post : Int32 → Prop} (t : Nat) (ht : t < T) (hT : T ≤ 8) (h : post 0) : wpY_badT post (nI S, nI K, nI T, nI C, uY, en, sp, de, vo, na, rm, wm, sv, sW, ss, cv, ft, fa, fc) (nI t) :=
  br_f (nI_pos (by omega)) (br_t (nI_lt ht (by omega)) h)
theorem yw_badStore {post : Int32 → Prop} (s : Nat) (h1 : 1 ≤ s) (hs : s ≤ S) (hS : S ≤ 4) (h : post 0) : wpY_badStore post (nI S, nI K, nI T, nI C, uY, en, sp, de, vo, na, rm, wm, sv, sW, ss, cv, ft, fa, fc) (nI s) :=
  br_f (nI_nlt (b := 1) h1 (by omega)) (br_t (nI_le hs (by omega)) h)
theorem yw_badSite {post : Int32 → Prop} (s : Nat) (hs : s ≤ S) (hS : S ≤ 4) (h : post 0) : wpY_badSite post (nI S, nI K, nI T, nI C, uY, en, sp, de, vo, na, rm, wm, sv, sW, ss, cv, ft, fa, fc) (nI s) :=
  br_f (nI_pos (by omega)) (br_t (nI_le hs (by omega)) h)
theorem yw_badKey {post : Int32 → Prop} (k : Nat) (hk : k < K) (hK : K ≤ 8) (h : post 0) : wpY_badKey post (nI S, nI K, nI T, nI C, uY, en, sp, de, vo, na, rm, wm, sv, sW, ss, cv, ft, fa, fc) (nI k) :=
  br_f (nI_pos (by omega)) (br_t (nI_lt hk (by omega)) h)
theorem yw_inFlight {post : Int32 → Prop} (k t s : Nat) (hk : k < 8) (ht : t < T) (hT : T ≤ 8) (h1 : 1 ≤ s) (hs : s ≤ S) (hS : S ≤ 4) (h : post (ft ((k * 8 + t) * 5 + s))) : wpY_inFlight post (nI S, nI K, nI T, nI C, uY, en, sp, de, vo, na, rm, wm, sv, sW, ss, cv, ft, fa, fc) (nI k) (nI t) (nI s) := by
  refine br_f (nI_pos (by omega)) (br_f (nI_nlt (a := 7) (by omega) (by decide)) (yw_badT t ht hT (br_t rfl (yw_badStore s h1 hs hS (br_t rfl (yw_wire k t s ?_))))))
  rw [nI_clamp (show (k * 8 + t) * 5 + s < 2 ^ 31 by omega)]
  exact ⟨vp_in_nI (by omega) (by decide), h⟩
theorem xd_70D {post : Int32 → SX → Prop} {x1 x2 x3 x4 x5 : Int32} (z : Nat) (hz : z < 5) (hu : up z = 0) (h : post (-2) (nI S, nI K, nI T, nI C, up, en, me, ye, re, ac, rM, wM, sv, sp, sS, ss, cv, fa, fc, de, fl)) : wX_deliver_70 post x1 x2 x3 x4 x5 (nI z) (nI S) (nI K) (nI T) (nI C) up en me ye re ac rM wM sv sp sS ss cv fa fc de fl := by
  refine And.intro (vp_in_nI hz (by decide)) ?_
  rw [nI_clamp (show z < 2 ^ 31 by omega)]
  exact br_t hu h
theorem xd_70S {post : Int32 → SX → Prop} {U : SX} {x1 x2 x3 : Int32} (j z : Nat) (hz : z < 5) (hj : j < 320) (hu : ¬ up z = 0)
    (hA : ∀ q : SX → Prop, q U → wpX_receiveAtStore q (nI S, nI K, nI T, nI C, up, en, me, ye, re, ac, rM, wM, sv, sp, sS, ss, cv, fa, fc, de, upd fl j (fl j - 1)) x1 x2 x3) (h : post 0 U) : wX_deliver_70 post x1 x2 x3 (nI j) 1 (nI z) (nI S) (nI K) (nI T) (nI C) up en me ye re ac rM wM sv sp sS ss cv fa fc de fl := by
  obtain ⟨b1, b2, b3, b4, b5, b6, b7, b8, b9, b10, b11, b12, b13, b14, b15, b16, b17, b18, b19, b20, b21⟩ := U
  refine And.intro (vp_in_nI hz (by decide)) ?_
  rw [nI_clamp (show z < 2 ^ 31 by omega), nI_clamp (show j < 2 ^ 31 by omega)]
  exact br_f hu ⟨vp_in_nI hj (by decide), vp_in_nI hj (by decide), nm_e (br_f (by decide) (hA _ h))⟩
theorem xd_70C {post : Int32 → SX → Prop} {U : SX} {x1 x2 x3 : Int32} (j z : Nat) (hz : z < 5) (hj : j < 320) (hu : ¬ up z = 0)
    (hA : ∀ q : SX → Prop, q U → wpX_receiveAtCoordinator q (nI S, nI K, nI T, nI C, up, en, me, ye, re, ac, rM, wM, sv, sp, sS, ss, cv, fa, fc, de, upd fl j (fl j - 1)) x1 x2 x3) (h : post 0 U) : wX_deliver_70 post x1 x2 x3 (nI j) 0 (nI z) (nI S) (nI K) (nI T) (nI C) up en me ye re ac rM wM sv sp sS ss cv fa fc de fl := by
  obtain ⟨b1, b2, b3, b4, b5, b6, b7, b8, b9, b10, b11, b12, b13, b14, b15, b16, b17, b18, b19, b20, b21⟩ := U
  refine And.intro (vp_in_nI hz (by decide)) ?_
  rw [nI_clamp (show z < 2 ^ 31 by omega), nI_clamp (show j < 2 ^ 31 by omega)]
  exact br_f hu ⟨vp_in_nI hj (by decide), vp_in_nI hj (by decide), nm_e (br_t rfl (hA _ h))⟩
theorem xd_S {post : Int32 → SX → Prop} (k s t : Nat) (hk : k = 0 ∨ k = 5 ∨ k = 6) (ht : t < T) (hT : T ≤ 8) (h1 : 1 ≤ s) (hs : s ≤ S) (hS : S ≤ 4) (hf : 0 < fl (k * 40 + s * 8 + t))
    (h : wX_deliver_70 post (nI k) (nI t) (nI s) (nI (k * 40 + s * 8 + t)) 1 (nI s) (nI S) (nI K) (nI T) (nI C) up en me ye re ac rM wM sv sp sS ss cv fa fc de fl) : wpX_deliver post (nI S, nI K, nI T, nI C, up, en, me, ye, re, ac, rM, wM, sv, sp, sS, ss, cv, fa, fc, de, fl) (nI k) (nI t) (nI s) := by
  unfold wpX_deliver
  refine xw_isMsg k t s (by omega) ht hT h1 hs hS (br_f (by decide) (nm_r (pa_fx k s t) ?_))
  rw [nI_clamp (show k * 40 + s * 8 + t < 2 ^ 31 by omega)]
  refine ⟨vp_in_nI (by omega) (by decide), br_t hf ?_⟩
  rcases hk with rfl | rfl | rfl
  · exact br_t rfl (br_f (by decide) h)
  · exact br_f (by decide) (br_t rfl (br_f (by decide) h))
  · exact br_f (by decide) (br_f (by decide) (br_t rfl (br_f (by decide) h)))
theorem xd_C {post : Int32 → SX → Prop} (k s t : Nat) (hk : k < 8) (hk0 : k ≠ 0) (hk5 : k ≠ 5) (hk6 : k ≠ 6) (ht : t < T) (hT : T ≤ 8) (h1 : 1 ≤ s) (hs : s ≤ S) (hS : S ≤ 4) (hf : 0 < fl (k * 40 + s * 8 + t))
    (h : wX_deliver_70 post (nI k) (nI t) (nI s) (nI (k * 40 + s * 8 + t)) 0 (nI 0) (nI S) (nI K) (nI T) (nI C) up en me ye re ac rM wM sv sp sS ss cv fa fc de fl) : wpX_deliver post (nI S, nI K, nI T, nI C, up, en, me, ye, re, ac, rM, wM, sv, sp, sS, ss, cv, fa, fc, de, fl) (nI k) (nI t) (nI s) := by
  unfold wpX_deliver
  refine xw_isMsg k t s (by omega) ht hT h1 hs hS (br_f (by decide) (nm_r (pa_fx k s t) ?_))
  rw [nI_clamp (show k * 40 + s * 8 + t < 2 ^ 31 by omega)]
  exact ⟨vp_in_nI (by omega) (by decide), br_t hf (br_f (pa_ne (b := 0) hk0 (by omega) (by decide)) (br_f (pa_ne (b := 5) hk5 (by omega) (by decide)) (br_f (pa_ne (b := 6) hk6 (by omega) (by decide)) (br_t rfl h))))⟩
theorem xd_E {post : Int32 → SX → Prop} (k s t : Nat) (hk : k < 8) (ht : t < T) (hT : T ≤ 8) (h1 : 1 ≤ s) (hs : s ≤ S) (hS : S ≤ 4) (hf : ¬ 0 < fl (k * 40 + s * 8 + t))
    (h : post (-7) (nI S, nI K, nI T, nI C, up, en, me, ye, re, ac, rM, wM, sv, sp, sS, ss, cv, fa, fc, de, fl)) : wpX_deliver post (nI S, nI K, nI T, nI C, up, en, me, ye, re, ac, rM, wM, sv, sp, sS, ss, cv, fa, fc, de, fl) (nI k) (nI t) (nI s) := by
  unfold wpX_deliver
  refine xw_isMsg k t s (by omega) ht hT h1 hs hS (br_f (by decide) (nm_r (pa_fx k s t) ?_))
  rw [nI_clamp (show k * 40 + s * 8 + t < 2 ^ 31 by omega)]
  exact ⟨vp_in_nI (by omega) (by decide), br_f hf h⟩
theorem yd_62D {post : Int32 → SY → Prop} {x1 x2 x3 x5 : Int32} (z : Nat) (hz : z < 5) (hu : uY z = 0) (h : post (-2) (nI S, nI K, nI T, nI C, uY, en, sp, de, vo, na, rm, wm, sv, sW, ss, cv, ft, fa, fc)) : wY_deliver_62 post x1 x2 x3 x5 (nI z) (nI S) (nI K) (nI T) (nI C) uY en sp de vo na rm wm sv sW ss cv ft fa fc := by
  refine And.intro (vp_in_nI hz (by decide)) ?_
  rw [nI_clamp (show z < 2 ^ 31 by omega)]
  exact br_t hu h
theorem yd_62S {post : Int32 → SY → Prop} {V : SY} (k t s z : Nat) (hk : k < 8) (ht : t < 8) (hs : s < 5) (hz : z < 5) (hu : ¬ uY z = 0)
    (hA : ∀ q : SY → Prop, q V → wpY_atStore q (nI S, nI K, nI T, nI C, uY, en, sp, de, vo, na, rm, wm, sv, sW, ss, cv, upd ft ((k * 8 + t) * 5 + s) (ft ((k * 8 + t) * 5 + s) - 1), fa, fc) (nI k) (nI t) (nI s)) (h : post 0 V) : wY_deliver_62 post (nI k) (nI t) (nI s) 1 (nI z) (nI S) (nI K) (nI T) (nI C) uY en sp de vo na rm wm sv sW ss cv ft fa fc := by
  obtain ⟨b1, b2, b3, b4, b5, b6, b7, b8, b9, b10, b11, b12, b13, b14, b15, b16, b17, b18, b19⟩ := V
  have hj : vp_in (nI ((k * 8 + t) * 5 + s)) 320 := vp_in_nI (by omega) (by decide)
  refine And.intro (vp_in_nI hz (by decide)) ?_
  rw [nI_clamp (show z < 2 ^ 31 by omega)]
  refine br_f hu (yw_wire k t s ?_)
  rw [nI_clamp (show (k * 8 + t) * 5 + s < 2 ^ 31 by omega)]
  exact ⟨hj, hj, nm_e (br_f (by decide) (hA _ h))⟩
theorem yd_62C {post : Int32 → SY → Prop} {V : SY} (k t s z : Nat) (hk : k < 8) (ht : t < 8) (hs : s < 5) (hz : z < 5) (hu : ¬ uY z = 0)
    (hA : ∀ q : SY → Prop, q V → wpY_atCoordinator q (nI S, nI K, nI T, nI C, uY, en, sp, de, vo, na, rm, wm, sv, sW, ss, cv, upd ft ((k * 8 + t) * 5 + s) (ft ((k * 8 + t) * 5 + s) - 1), fa, fc) (nI k) (nI t) (nI s)) (h : post 0 V) : wY_deliver_62 post (nI k) (nI t) (nI s) 0 (nI z) (nI S) (nI K) (nI T) (nI C) uY en sp de vo na rm wm sv sW ss cv ft fa fc := by
  obtain ⟨b1, b2, b3, b4, b5, b6, b7, b8, b9, b10, b11, b12, b13, b14, b15, b16, b17, b18, b19⟩ := V
  have hj : vp_in (nI ((k * 8 + t) * 5 + s)) 320 := vp_in_nI (by omega) (by decide)
  refine And.intro (vp_in_nI hz (by decide)) ?_
  rw [nI_clamp (show z < 2 ^ 31 by omega)]
  refine br_f hu (yw_wire k t s ?_)
  rw [nI_clamp (show (k * 8 + t) * 5 + s < 2 ^ 31 by omega)]
  exact ⟨hj, hj, nm_e (br_t rfl (hA _ h))⟩
theorem yd_S {post : Int32 → SY → Prop} (k s t : Nat) (hk : k = 0 ∨ k = 5 ∨ k = 6) (ht : t < T) (hT : T ≤ 8) (h1 : 1 ≤ s) (hs : s ≤ S) (hS : S ≤ 4) (hf : 0 < ft ((k * 8 + t) * 5 + s))
    (h : wY_deliver_62 post (nI k) (nI t) (nI s) 1 (nI s) (nI S) (nI K) (nI T) (nI C) uY en sp de vo na rm wm sv sW ss cv ft fa fc) : wpY_deliver post (nI S, nI K, nI T, nI C, uY, en, sp, de, vo, na, rm, wm, sv, sW, ss, cv, ft, fa, fc) (nI k) (nI t) (nI s) := by
  unfold wpY_deliver
  refine yw_inFlight k t s (by omega) ht hT h1 hs hS (br_t hf ?_)
  rcases hk with rfl | rfl | rfl
  · exact br_t rfl (br_f (by decide) h)
  · exact br_f (by decide) (br_t rfl (br_f (by decide) h))
  · exact br_f (by decide) (br_f (by decide) (br_t rfl (br_f (by decide) h)))
theorem yd_C {post : Int32 → SY → Prop} (k s t : Nat) (hk : k < 8) (hk0 : k ≠ 0) (hk5 : k ≠ 5) (hk6 : k ≠ 6) (ht : t < T) (hT : T ≤ 8) (h1 : 1 ≤ s) (hs : s ≤ S) (hS : S ≤ 4) (hf : 0 < ft ((k * 8 + t) * 5 + s))
    (h : wY_deliver_62 post (nI k) (nI t) (nI s) 0 (nI 0) (nI S) (nI K) (nI T) (nI C) uY en sp de vo na rm wm sv sW ss cv ft fa fc) : wpY_deliver post (nI S, nI K, nI T, nI C, uY, en, sp, de, vo, na, rm, wm, sv, sW, ss, cv, ft, fa, fc) (nI k) (nI t) (nI s) := by
  unfold wpY_deliver
  refine yw_inFlight k t s (by omega) ht hT h1 hs hS (br_t hf ?_)
  exact br_f (pa_ne (b := 0) hk0 (by omega) (by decide)) (br_f (pa_ne (b := 5) hk5 (by omega) (by decide)) (br_f (pa_ne (b := 6) hk6 (by omega) (by decide)) (br_t rfl h)))
theorem yd_E {post : Int32 → SY → Prop} (k s t : Nat) (hk : k < 8) (ht : t < T) (hT : T ≤ 8) (h1 : 1 ≤ s) (hs : s ≤ S) (hS : S ≤ 4) (hf : ft ((k * 8 + t) * 5 + s) = 0)
    (h : post (-7) (nI S, nI K, nI T, nI C, uY, en, sp, de, vo, na, rm, wm, sv, sW, ss, cv, ft, fa, fc)) : wpY_deliver post (nI S, nI K, nI T, nI C, uY, en, sp, de, vo, na, rm, wm, sv, sW, ss, cv, ft, fa, fc) (nI k) (nI t) (nI s) := by
  unfold wpY_deliver
  exact yw_inFlight k t s (by omega) ht hT h1 hs hS (br_f (by rw [hf]; decide) (br_t (by rw [hf]; decide) h))
end
abbrev pa_LR (S K T C : Nat) (A : (Int32 → SX → Prop) → Prop) (B : (Int32 → SY → Prop) → Prop) : Prop :=
  ∃ (r : Int32) (u : SX) (v : SY), pa_R S K T C u v ∧ (∀ p : Int32 → SX → Prop, p r u → A p) ∧ (∀ p : Int32 → SY → Prop, p r v → B p)
theorem lk_deliver {S K T C : Nat} {u : SX} {v : SY} (I : pa_R S K T C u v) (k s t : Nat) (hk : k < 8) (h1 : 1 ≤ s) (hs : s ≤ S) (ht : t < T) :
    pa_LR S K T C (fun p => wpX_deliver p u (nI k) (nI t) (nI s)) (fun p => wpY_deliver p v (nI k) (nI t) (nI s)) := by
  refine pa_el (P := fun u v => pa_LR S K T C (fun p => wpX_deliver p u (nI k) (nI t) (nI s)) (fun p => wpY_deliver p v (nI k) (nI t) (nI s))) ?_ I
  intro up uY en me ye re ac rM wM sv sp sS ss cv fa fc de fl vo na rm wm sW ft h
  obtain ⟨⟨_, hS⟩, ⟨_, hK⟩, ⟨_, hT⟩, ⟨_, hC⟩⟩ := h.1
  have hs5 : s < 5 := by omega
  have ht8 : t < 8 := by omega
  obtain ⟨e1, n, hn, e2⟩ := h.2.2.2.2.2.2.1 k s t hk hs5 ht8
  rcases Nat.eq_zero_or_pos n with hn0 | hn0
  · subst hn0
    exact ⟨-7, _, _, pa_mk h, fun p hp => xd_E k s t hk ht hT h1 hs hS (by rw [e2]; decide) hp, fun p hp => yd_E k s t hk ht hT h1 hs hS (e1.trans e2) hp⟩
  have hf : 0 < fl (k * 40 + s * 8 + t) := by rw [e2]; exact nI_lt (a := 0) hn0 (by omega)
  have hf' : 0 < ft ((k * 8 + t) * 5 + s) := by rw [e1]; exact hf
  have hx : fl (k * 40 + s * 8 + t) - 1 = nI (n - 1) := by
    rw [e2]
    exact pk_sub (b := 1) hn0
  have G := g_fupd h k s t (n - 1) hk hs5 ht8 (by omega) hx
  have hG : (pa_G S K T C up uY en me ye re ac rM wM sp sS fa fc (upd fl (k * 40 + s * 8 + t) (fl (k * 40 + s * 8 + t) - 1)) vo na rm wm sW (upd ft ((k * 8 + t) * 5 + s) (ft ((k * 8 + t) * 5 + s) - 1))) := by
    rw [e1]
    exact G
  have hj : k * 40 + s * 8 + t < 320 := by omega
  by_cases hst : k = 0 ∨ k = 5 ∨ k = 6
  · by_cases hu : up s = 0
    · exact ⟨-2, _, _, pa_mk h, fun p hp => xd_S k s t hst ht hT h1 hs hS hf (xd_70D s hs5 hu hp), fun p hp => yd_S k s t hst ht hT h1 hs hS hf' (yd_62D s hs5 ((h.2.1.1 s hs).trans hu) hp)⟩
    · have hu' : ¬ uY s = 0 := by rw [h.2.1.1 s hs]; exact hu
      have key : pa_L S K T C (fun p => wpX_receiveAtStore p (nI S, nI K, nI T, nI C, up, en, me, ye, re, ac, rM, wM, sv, sp, sS, ss, cv, fa, fc, de, upd fl (k * 40 + s * 8 + t) (fl (k * 40 + s * 8 + t) - 1)) (nI k) (nI t) (nI s)) (fun p => wpY_atStore p (nI S, nI K, nI T, nI C, uY, en, sp, de, vo, na, rm, wm, sv, sW, ss, cv, upd ft ((k * 8 + t) * 5 + s) (ft ((k * 8 + t) * 5 + s) - 1), fa, fc) (nI k) (nI t) (nI s)) := by
        rcases hst with rfl | rfl | rfl
        · exact lk_prep hG s t h1 hs ht hu
        · exact lk_com hG s t h1 hs ht
        · exact lk_abt hG s t h1 hs ht
      obtain ⟨u', v', hR, hA, hB⟩ := key
      exact ⟨0, u', v', hR, fun p hp => xd_S k s t hst ht hT h1 hs hS hf (xd_70S _ s hs5 hj hu hA hp), fun p hp => yd_S k s t hst ht hT h1 hs hS hf' (yd_62S k t s s hk ht8 hs5 hs5 hu' hB hp)⟩
  · have k0 : k ≠ 0 := fun z => hst (Or.inl z)
    have k5 : k ≠ 5 := fun z => hst (Or.inr (Or.inl z))
    have k6 : k ≠ 6 := fun z => hst (Or.inr (Or.inr z))
    by_cases hu : up 0 = 0
    · exact ⟨-2, _, _, pa_mk h, fun p hp => xd_C k s t hk k0 k5 k6 ht hT h1 hs hS hf (xd_70D 0 (by decide) hu hp), fun p hp => yd_C k s t hk k0 k5 k6 ht hT h1 hs hS hf' (yd_62D 0 (by decide) ((h.2.1.1 0 (by omega)).trans hu) hp)⟩
    · have hu' : ¬ uY 0 = 0 := by rw [h.2.1.1 0 (by omega)]; exact hu
      have key : pa_L S K T C (fun p => wpX_receiveAtCoordinator p (nI S, nI K, nI T, nI C, up, en, me, ye, re, ac, rM, wM, sv, sp, sS, ss, cv, fa, fc, de, upd fl (k * 40 + s * 8 + t) (fl (k * 40 + s * 8 + t) - 1)) (nI k) (nI t) (nI s)) (fun p => wpY_atCoordinator p (nI S, nI K, nI T, nI C, uY, en, sp, de, vo, na, rm, wm, sv, sW, ss, cv, upd ft ((k * 8 + t) * 5 + s) (ft ((k * 8 + t) * 5 + s) - 1), fa, fc) (nI k) (nI t) (nI s)) := by
        have hk' : k = 1 ∨ k = 2 ∨ k = 3 ∨ k = 4 ∨ k = 7 := by omega
        rcases hk' with rfl | rfl | rfl | rfl | rfl
        · exact lk_vote1 hG s t h1 hs ht hu
        · exact lk_vote2 hG s t h1 hs ht
        · exact lk_vote3 hG s t h1 hs ht hu
        · exact lk_inq hG s t hs ht
        · exact lk_ack hG s t h1 hs ht
      obtain ⟨u', v', hR, hA, hB⟩ := key
      exact ⟨0, u', v', hR, fun p hp => xd_C k s t hk k0 k5 k6 ht hT h1 hs hS hf (xd_70C _ 0 (by decide) hj hu hA hp), fun p hp => yd_C k s t hk k0 k5 k6 ht hT h1 hs hS hf' (yd_62C k t s 0 hk ht8 hs5 (by decide) hu' hB hp)⟩
end
section
/-! timeout -/
section
variable {S K T C : Nat} {up uY en me ye re ac rM wM sv sp sS ss cv fa fc de fl vo na rm wm sW ft : Nat → Int32}
theorem yw_stateD {post : Int32 → Prop} (s t : Nat) (hs : s ≤ S) (hS : S ≤ 4) (ht : t < T) (hT : T ≤ 8) (hu : uY s = 0) (h : post (-2)) : wpY_state post (nI S, nI K, nI T, nI C, uY, en, sp, de, vo, na, rm, wm, sv, sW, ss, cv, ft, fa, fc) (nI s) (nI t) := by
  unfold wpY_state
  refine yw_badSite s hs hS (br_t rfl (yw_badT t ht hT (br_t rfl ?_)))
  rw [nI_clamp (show s < 2 ^ 31 by omega)]
  exact ⟨vp_in_nI (by omega) (by decide), br_t hu h⟩
theorem yw_stateU {post : Int32 → Prop} (s t c : Nat) (hc : s * 8 + t = c) (hs : s ≤ S) (hS : S ≤ 4) (ht : t < T) (hT : T ≤ 8) (hu : ¬ uY s = 0) (h : post (en c)) : wpY_state post (nI S, nI K, nI T, nI C, uY, en, sp, de, vo, na, rm, wm, sv, sW, ss, cv, ft, fa, fc) (nI s) (nI t) := by
  unfold wpY_state
  refine yw_badSite s hs hS (br_t rfl (yw_badT t ht hT (br_t rfl ?_)))
  rw [nI_clamp (show s < 2 ^ 31 by omega)]
  refine ⟨vp_in_nI (by omega) (by decide), br_f hu (yw_at s t ?_)⟩
  rw [hc, nI_clamp (show c < 2 ^ 31 by omega)]
  exact ⟨vp_in_nI (by omega) (by decide), h⟩
theorem yt_D {post : Int32 → SY → Prop} (s t : Nat) (hs : s ≤ S) (hS : S ≤ 4) (ht : t < T) (hT : T ≤ 8) (hu : uY s = 0) (h : post (-2) (nI S, nI K, nI T, nI C, uY, en, sp, de, vo, na, rm, wm, sv, sW, ss, cv, ft, fa, fc)) : wpY_timeout post (nI S, nI K, nI T, nI C, uY, en, sp, de, vo, na, rm, wm, sv, sW, ss, cv, ft, fa, fc) (nI s) (nI t) := by
  unfold wpY_timeout
  exact yw_stateD s t hs hS ht hT hu (br_f (by decide) (br_f (by decide) h))
theorem yt_N {post : Int32 → SY → Prop} (s t c : Nat) (hc : s * 8 + t = c) (hs : s ≤ S) (hS : S ≤ 4) (ht : t < T) (hT : T ≤ 8) (hu : ¬ uY s = 0) (he : en c = 0) (h : post (-3) (nI S, nI K, nI T, nI C, uY, en, sp, de, vo, na, rm, wm, sv, sW, ss, cv, ft, fa, fc)) : wpY_timeout post (nI S, nI K, nI T, nI C, uY, en, sp, de, vo, na, rm, wm, sv, sW, ss, cv, ft, fa, fc) (nI s) (nI t) := by
  unfold wpY_timeout
  refine yw_stateU s t c hc hs hS ht hT hu ?_
  rw [he]
  exact br_f (by decide) (br_t (by decide) h)
theorem yt_40 {post : Int32 → SY → Prop} (t : Nat) (hS : S ≤ 4) (ht : t < 8)
    (h : post 0 (nI S, nI K, nI T, nI C, uY, en, sp, de, vo, na, rm, wm, sv, sW, ss, cv, pa_sd C (fun s => (5 * 8 + t) * 5 + s) (pa_vQ vo t 4) ft S, fa, fc)) :
    ∀ d i n : Nat, i + d = S → d < n → wY_timeout_40 post 0 (nI t) 4 n (nI (i + 1)) (nI S) (nI K) (nI T) (nI C) uY en sp de vo na rm wm sv sW ss cv (pa_sd C (fun s => (5 * 8 + t) * 5 + s) (pa_vQ vo t 4) ft i) fa fc := by
  intro d
  induction d with
  | zero =>
    intro i n hi hn
    obtain ⟨n, rfl⟩ : ∃ q, n = q + 1 := ⟨n - 1, by omega⟩
    have e : i = S := by omega
    subst e
    exact br_t rfl (br_t rfl (br_t (nI_lt (by omega) (by omega)) (br_t (by decide) (br_t (by decide) h))))
  | succ d ih =>
    intro i n hi hn
    obtain ⟨n, rfl⟩ : ∃ q, n = q + 1 := ⟨n - 1, by omega⟩
    have key := ih (i + 1) n (by omega) (by omega)
    refine br_t rfl (br_t rfl (br_f (nI_nlt (by omega) (by omega)) (yw_at (i + 1) t ?_)))
    rw [nI_clamp (show (i + 1) * 8 + t < 2 ^ 31 by omega)]
    refine ⟨vp_in_nI (by omega) (by decide), ?_⟩
    by_cases h4 : vo ((i + 1) * 8 + t) = 4
    · have e : pa_sd C (fun s => (5 * 8 + t) * 5 + s) (pa_vQ vo t 4) ft (i + 1) = pa_snd C (pa_sd C (fun s => (5 * 8 + t) * 5 + s) (pa_vQ vo t 4) ft i) ((5 * 8 + t) * 5 + (i + 1)) := if_pos (decide_eq_true h4)
      rw [e] at key
      exact br_t h4 (yw_send 5 (i + 1) t (by decide) (by omega) ht (nm_r (nI_1 _) key))
    · have e : pa_sd C (fun s => (5 * 8 + t) * 5 + s) (pa_vQ vo t 4) ft (i + 1) = pa_sd C (fun s => (5 * 8 + t) * 5 + s) (pa_vQ vo t 4) ft i := if_neg (by unfold pa_vQ; simp [h4])
      rw [e] at key
      exact br_f h4 (nm_r (nI_1 _) key)
theorem yt_04 {post : Int32 → SY → Prop} (t : Nat) (hS : S ≤ 4) (ht : t < T) (hT : T ≤ 8) (hu : ¬ uY 0 = 0) (he : en t = 4)
    (h : post 0 (nI S, nI K, nI T, nI C, uY, en, sp, de, vo, na, rm, wm, sv, sW, ss, cv, pa_sd C (fun s => (5 * 8 + t) * 5 + s) (pa_vQ vo t 4) ft S, fa, fc)) : wpY_timeout post (nI S, nI K, nI T, nI C, uY, en, sp, de, vo, na, rm, wm, sv, sW, ss, cv, ft, fa, fc) 0 (nI t) := by
  unfold wpY_timeout
  refine yw_stateU 0 t t (by omega) (by omega) hS ht hT hu ?_
  rw [he]
  exact br_t (by decide) (br_t rfl (br_t rfl ⟨S + 1, yt_40 t hS (by omega) h S 0 (S + 1) (by omega) (by omega)⟩))
theorem yt_0A {post : Int32 → SY → Prop} (t : Nat) (hS : S ≤ 4) (hK : K ≤ 8) (ht : t < T) (hT : T ≤ 8) (hu : ¬ uY 0 = 0) (he : en t = 1 ∨ en t = 2)
    (h : post 0 (nI S, nI K, nI T, nI C, uY, upd en t 0, sp, upd de t 5, pa_vz vo t S, na, pa_zr rm (t * 8) K, pa_zr wm (t * 8) K, sv, sW, ss, cv, pa_sd C (fun s => (6 * 8 + t) * 5 + s) (pa_aQ vo t 0) ft S, fa, fc)) : wpY_timeout post (nI S, nI K, nI T, nI C, uY, en, sp, de, vo, na, rm, wm, sv, sW, ss, cv, ft, fa, fc) 0 (nI t) := by
  unfold wpY_timeout
  refine yw_stateU 0 t t (by omega) (by omega) hS ht hT hu ?_
  rcases he with he | he <;> rw [he]
  · exact br_t (by decide) (br_t rfl (br_f (by decide) (yw_abort t 0 (by decide) hS (by omega) hK ⟨1, br_t rfl (br_f (by decide) (br_t (by decide) (br_t (by decide) h)))⟩)))
  · exact br_t (by decide) (br_t rfl (br_f (by decide) (yw_abort t 0 (by decide) hS (by omega) hK ⟨1, br_t rfl (br_f (by decide) (br_t (by decide) (br_t (by decide) h)))⟩)))
theorem yt_s1 {post : Int32 → SY → Prop} (s t : Nat) (h1 : 1 ≤ s) (hs : s ≤ S) (hS : S ≤ 4) (hK : K ≤ 8) (ht : t < T) (hT : T ≤ 8) (hu : ¬ uY s = 0) (he : en (s * 8 + t) = 1)
    (h : post 0 (nI S, nI K, nI T, nI C, uY, upd en (s * 8 + t) 0, sp, upd de (s * 8 + t) 5, vo, na, pa_zr rm ((s * 8 + t) * 8) K, pa_zr wm ((s * 8 + t) * 8) K, sv, sW, ss, cv, ft, fa, fc)) : wpY_timeout post (nI S, nI K, nI T, nI C, uY, en, sp, de, vo, na, rm, wm, sv, sW, ss, cv, ft, fa, fc) (nI s) (nI t) := by
  have hne : ¬ nI s = 0 := nI_ne0 h1 (by omega)
  have hle : ¬ nI s ≤ 0 := nI_nle h1 (by omega)
  unfold wpY_timeout
  refine yw_stateU s t (s * 8 + t) rfl hs hS ht hT hu ?_
  rw [he]
  refine br_t (by decide) (br_f hne ⟨1, br_f hne (br_f hle (br_t rfl (yw_at s t ?_)))⟩)
  rw [nI_clamp (show s * 8 + t < 2 ^ 31 by omega)]
  exact ⟨vp_in_nI (by omega) (by decide), nm_e (yw_dropS s t h1 (by omega) (by omega) hK (br_f hle (br_f (by decide) h)))⟩
theorem yt_s3 {post : Int32 → SY → Prop} (s t : Nat) (h1 : 1 ≤ s) (hs : s ≤ S) (hS : S ≤ 4) (ht : t < T) (hT : T ≤ 8) (hu : ¬ uY s = 0) (he : en (s * 8 + t) = 3)
    (h : post 0 (nI S, nI K, nI T, nI C, uY, en, sp, de, vo, na, rm, wm, sv, sW, ss, cv, pa_snd C ft ((4 * 8 + t) * 5 + s), fa, fc)) : wpY_timeout post (nI S, nI K, nI T, nI C, uY, en, sp, de, vo, na, rm, wm, sv, sW, ss, cv, ft, fa, fc) (nI s) (nI t) := by
  have hne : ¬ nI s = 0 := nI_ne0 h1 (by omega)
  have hle : ¬ nI s ≤ 0 := nI_nle h1 (by omega)
  unfold wpY_timeout
  refine yw_stateU s t (s * 8 + t) rfl hs hS ht hT hu ?_
  rw [he]
  exact br_t (by decide) (br_f hne ⟨1, br_f hne (br_f hle (br_f (by decide) (br_f hle (br_t rfl (yw_send 4 s t (by decide) (by omega) (by omega) h)))))⟩)
theorem xt_D {post : Int32 → SX → Prop} (s t : Nat) (hs : s ≤ S) (hS : S ≤ 4) (ht : t < T) (hT : T ≤ 8) (hu : up s = 0) (h : post (-2) (nI S, nI K, nI T, nI C, up, en, me, ye, re, ac, rM, wM, sv, sp, sS, ss, cv, fa, fc, de, fl)) : wpX_timeout post (nI S, nI K, nI T, nI C, up, en, me, ye, re, ac, rM, wM, sv, sp, sS, ss, cv, fa, fc, de, fl) (nI s) (nI t) := by
  unfold wpX_timeout
  refine xw_isSite s hs hS (br_f (by decide) (xw_isTx t ht hT (br_f (by decide) ?_)))
  rw [nI_clamp (show s < 2 ^ 31 by omega)]
  exact ⟨vp_in_nI (by omega) (by decide), br_t hu h⟩
theorem xt_N {post : Int32 → SX → Prop} (s t c : Nat) (hc : s * 8 + t = c) (hs : s ≤ S) (hS : S ≤ 4) (ht : t < T) (hT : T ≤ 8) (hu : ¬ up s = 0) (he : en c = 0) (h : post (-3) (nI S, nI K, nI T, nI C, up, en, me, ye, re, ac, rM, wM, sv, sp, sS, ss, cv, fa, fc, de, fl)) : wpX_timeout post (nI S, nI K, nI T, nI C, up, en, me, ye, re, ac, rM, wM, sv, sp, sS, ss, cv, fa, fc, de, fl) (nI s) (nI t) := by
  unfold wpX_timeout
  refine xw_isSite s hs hS (br_f (by decide) (xw_isTx t ht hT (br_f (by decide) ?_)))
  rw [nI_clamp (show s < 2 ^ 31 by omega), pa_at, hc, nI_clamp (show c < 2 ^ 31 by omega)]
  exact ⟨vp_in_nI (by omega) (by decide), br_f hu ⟨vp_in_nI (by omega) (by decide), br_t he h⟩⟩
theorem xt_0 {post : Int32 → SX → Prop} {U : SX} (t : Nat) (hS : S ≤ 4) (ht : t < T) (hT : T ≤ 8) (hu : ¬ up 0 = 0) (he : ¬ en t = 0)
    (hA : ∀ q : SX → Prop, q U → wpX_coordinatorTimer q (nI S, nI K, nI T, nI C, up, en, me, ye, re, ac, rM, wM, sv, sp, sS, ss, cv, fa, fc, de, fl) (nI t)) (h : post 0 U) : wpX_timeout post (nI S, nI K, nI T, nI C, up, en, me, ye, re, ac, rM, wM, sv, sp, sS, ss, cv, fa, fc, de, fl) (nI 0) (nI t) := by
  obtain ⟨b1, b2, b3, b4, b5, b6, b7, b8, b9, b10, b11, b12, b13, b14, b15, b16, b17, b18, b19, b20, b21⟩ := U
  unfold wpX_timeout
  refine xw_isSite 0 (by omega) hS (br_f (by decide) (xw_isTx t ht hT (br_f (by decide) ?_)))
  rw [nI_clamp (show 0 < 2 ^ 31 by omega), pa_at, show 0 * 8 + t = t by omega, nI_clamp (show t < 2 ^ 31 by omega)]
  exact ⟨vp_in_nI (by omega) (by decide), br_f hu ⟨vp_in_nI (by omega) (by decide), br_f he (br_t rfl (hA _ h))⟩⟩
theorem xt_S {post : Int32 → SX → Prop} {U : SX} (s t : Nat) (h1 : 1 ≤ s) (hs : s ≤ S) (hS : S ≤ 4) (ht : t < T) (hT : T ≤ 8) (hu : ¬ up s = 0) (he : ¬ en (s * 8 + t) = 0)
    (hA : ∀ q : SX → Prop, q U → wpX_storeTimer q (nI S, nI K, nI T, nI C, up, en, me, ye, re, ac, rM, wM, sv, sp, sS, ss, cv, fa, fc, de, fl) (nI t) (nI s)) (h : post 0 U) : wpX_timeout post (nI S, nI K, nI T, nI C, up, en, me, ye, re, ac, rM, wM, sv, sp, sS, ss, cv, fa, fc, de, fl) (nI s) (nI t) := by
  obtain ⟨b1, b2, b3, b4, b5, b6, b7, b8, b9, b10, b11, b12, b13, b14, b15, b16, b17, b18, b19, b20, b21⟩ := U
  unfold wpX_timeout
  refine xw_isSite s hs hS (br_f (by decide) (xw_isTx t ht hT (br_f (by decide) ?_)))
  rw [nI_clamp (show s < 2 ^ 31 by omega), pa_at, nI_clamp (show s * 8 + t < 2 ^ 31 by omega)]
  exact ⟨vp_in_nI (by omega) (by decide), br_f hu ⟨vp_in_nI (by omega) (by decide), br_f he (br_f (nI_ne0 h1 (by omega)) (hA _ h))⟩⟩
end
theorem lk_timeout {S K T C : Nat} {u : SX} {v : SY} (I : pa_R S K T C u v) (s t : Nat) (hs : s ≤ S) (ht : t < T) :
    pa_LR S K T C (fun p => wpX_timeout p u (nI s) (nI t)) (fun p => wpY_timeout p v (nI s) (nI t)) := by
  refine pa_el (P := fun u v => pa_LR S K T C (fun p => wpX_timeout p u (nI s) (nI t)) (fun p => wpY_timeout p v (nI s) (nI t))) ?_ I
  intro up uY en me ye re ac rM wM sv sp sS ss cv fa fc de fl vo na rm wm sW ft h
  obtain ⟨⟨_, hS⟩, ⟨_, hK⟩, ⟨_, hT⟩, ⟨_, hC⟩⟩ := h.1
  have hs5 : s < 5 := by omega
  have ht8 : t < 8 := by omega
  have eu := h.2.1.1 s hs
  by_cases hu : up s = 0
  · exact ⟨-2, _, _, pa_mk h, fun p hp => xt_D s t hs hS ht hT hu hp, fun p hp => yt_D s t hs hS ht hT (eu.trans hu) hp⟩
  have hu' : ¬ uY s = 0 := by rw [eu]; exact hu
  by_cases he0 : en (s * 8 + t) = 0
  · exact ⟨-3, _, _, pa_mk h, fun p hp => xt_N s t _ rfl hs hS ht hT hu he0 hp, fun p hp => yt_N s t _ rfl hs hS ht hT hu' he0 hp⟩
  rcases Nat.eq_zero_or_pos s with h0 | h1
  · subst h0
    rw [show 0 * 8 + t = t by omega] at he0
    have v := h.2.2.2.1 t ht8
    by_cases h4 : en t = 4
    · refine ⟨0, _, _, pa_mk (g_sd h 5 t (by decide) ht8 (P := bt (me t &&& (ac t ^^^ (-1)))) (Q := pa_vQ vo t 4) fun s g1 g2 => ?_), fun p hp => xt_0 t hS ht hT hu he0 (fun q hq => xw_ct4 t hS ht8 h4 hq) hp, fun p hp => yt_04 t hS ht hT hu' h4 hp⟩
      have z : vo (s * 8 + t) = 4 ↔ bt (me t &&& (ac t ^^^ (-1))) s = true := v1_z4 v h4 g1 g2
      unfold pa_vQ
      rw [Bool.eq_iff_iff, decide_eq_true_eq, z]
    · have he : en t = 1 ∨ en t = 2 := by
        rcases v.1 with z | z | z | z
        · exact absurd z he0
        · exact Or.inl z
        · exact Or.inr z
        · exact absurd z h4
      exact ⟨0, _, _, pa_mk (g_abort h t 0 ht8 h4 (by decide)), fun p hp => xt_0 t hS ht hT hu he0 (fun q hq => xw_ctN t hS ht8 h4 hq) hp, fun p hp => yt_0A t hS hK ht hT hu' he hp⟩
  · rcases h.2.2.1 (s * 8 + t) (by omega) (by omega) with he | he | he
    · exact absurd he he0
    · exact ⟨0, _, _, pa_mk (g_clearS h s t h1 ht8), fun p hp => xt_S s t h1 hs hS ht hT hu he0 (fun q hq => xw_stN s t h1 hs5 ht8 (by rw [he]; decide) hq) hp, fun p hp => yt_s1 s t h1 hs hS hK ht hT hu' he hp⟩
    · exact ⟨0, _, _, pa_mk (g_snd h 4 s t (by decide) hs5 ht8), fun p hp => xt_S s t h1 hs hS ht hT hu he0 (fun q hq => xw_st3 s t hs5 ht8 he hq) hp, fun p hp => yt_s3 s t h1 hs hS ht hT hu' he hp⟩
end
section
/-! crash, restart -/
def pa_cd (de en : Nat → Int32) (c : Nat) : Nat → Int32 := if en c = 1 ∨ en c = 2 then upd de c 5 else de
theorem gu_down {S T : Nat} {up uY en : Nat → Int32} (h : pa_GU S T up uY en) (s : Nat) (he : ∀ t, t < T → en (s * 8 + t) = 0) : pa_GU S T (upd up s 0) (upd uY s 0) en := by
  refine ⟨fun j hj => ?_, fun j t hj ht hu => ?_⟩
  · by_cases e : j = s
    · rw [e, pk_us, pk_us]
    · rw [pk_un e, pk_un e]
      exact h.1 j hj
  · by_cases e : j = s
    · rw [e]
      exact he t ht
    · rw [pk_un e] at hu
      exact h.2 j t hj ht hu
theorem gu_rise {S T : Nat} {up uY en : Nat → Int32} (h : pa_GU S T up uY en) (s : Nat) : pa_GU S T (upd up s 1) (upd uY s 1) en := by
  refine ⟨fun j hj => ?_, fun j t hj ht hu => ?_⟩
  · by_cases e : j = s
    · rw [e, pk_us, pk_us]
    · rw [pk_un e, pk_un e]
      exact h.1 j hj
  · by_cases e : j = s
    · rw [e, pk_us] at hu
      exact absurd hu (by decide)
    · rw [pk_un e] at hu
      exact h.2 j t hj ht hu
section
variable {S K T C : Nat} {up uY en me ye re ac rM wM sv sp sS ss cv fa fc de fl vo na rm wm sW ft : Nat → Int32}
theorem xw_clampK (x : Int32) (n : Nat) (hn : n ≤ 8) : ∃ m, m ≤ n ∧ (∀ i, i < n → (¬ x ≤ nI i ↔ i < m)) ∧ (∀ post : Int32 → Prop, post (nI m) → wpX_clamp post (nI S, nI K, nI T, nI C, up, en, me, ye, re, ac, rM, wM, sv, sp, sS, ss, cv, fa, fc, de, fl) x 0 (nI n)) := by
  by_cases hx : x < 0
  · refine ⟨0, Nat.zero_le _, fun i hi => ⟨fun z => absurd (Int32.le_trans (Int32.le_of_lt hx) (nI_pos' (by omega))) z, fun z => absurd z (by omega)⟩, fun post hp => ?_⟩
    exact br_f (Int32.not_le.mpr hx) hp
  · obtain ⟨j, hj, rfl⟩ := nI_of hx
    have h0 : (0 : Int32) ≤ nI j := nI_pos' hj
    by_cases hjn : j ≤ n
    · refine ⟨j, hjn, fun i hi => ?_, fun post hp => br_t h0 (br_t (nI_le hjn (by omega)) hp)⟩
      rw [nI_leI hj (by omega)]
      omega
    · refine ⟨n, Nat.le_refl _, fun i hi => ?_, fun post hp => br_t h0 (br_f (nI_ge (by omega) hj) hp)⟩
      rw [nI_leI hj (by omega)]
      omega
theorem xcr_end {post : Int32 → SX → Prop} (s n : Nat) (hs : s < 5) (hT : T ≤ 8) (h : post 0 (nI S, nI K, nI T, nI C, upd up s 0, en, me, ye, re, ac, rM, wM, sv, sp, sS, ss, cv, fa, fc, de, fl)) : wX_crash_51 post (nI s) (n + 1) (nI T) (nI S) (nI K) (nI T) (nI C) up en me ye re ac rM wM sv sp sS ss cv fa fc de fl := by
  refine br_t (nI_le (Nat.le_refl _) (by omega)) ?_
  rw [nI_clamp (show s < 2 ^ 31 by omega), pa_nb0]
  exact ⟨vp_in_nI hs (by decide), nm_e h⟩
theorem xcr_step {post : Int32 → SX → Prop} (s i c n : Nat) (hc : s * 8 + i = c) (hs : s < 5) (hi : i < T) (hT : T ≤ 8)
    (h : wX_crash_99 post (wX_crash_51 post (nI s) n) (nI s) (nI i) (nI S) (nI K) (nI T) (nI C) up en me ye re ac rM wM sv sp sS ss cv fa fc (pa_cd de en c) fl) : wX_crash_51 post (nI s) (n + 1) (nI i) (nI S) (nI K) (nI T) (nI C) up en me ye re ac rM wM sv sp sS ss cv fa fc de fl := by
  have i40 : vp_in (nI c) 40 := vp_in_nI (by omega) (by decide)
  have hcl : (nI c).toNatClampNeg = c := nI_clamp (by omega)
  refine br_f (nI_ge hi (by omega)) (nm_r (pa_at s i) ?_)
  rw [hc, hcl]
  refine ⟨i40, br_c (fun e1 => ?_) (fun n1 => ⟨i40, br_c (fun e2 => ?_) (fun n2 => ?_)⟩)⟩
  · rw [pa_cd, if_pos (Or.inl e1)] at h
    exact And.intro i40 (nm_r (e' := upd de c 5) (by rw [hcl]) h)
  · rw [pa_cd, if_pos (Or.inr e2)] at h
    exact And.intro i40 (nm_r (e' := upd de c 5) (by rw [hcl]) h)
  · rw [pa_cd, if_neg (fun z => z.elim n1 n2)] at h
    exact h
theorem xcr_S {post : Int32 → SX → Prop} (s i n : Nat) (h1 : 1 ≤ s) (hs : s < 5) (hi : i < T) (hT : T ≤ 8)
    (h : wX_crash_51 post (nI s) n (nI (i + 1)) (nI S) (nI K) (nI T) (nI C) up (upd en (s * 8 + i) 0) me ye re ac (upd rM (s * 8 + i) 0) (upd wM (s * 8 + i) 0) sv sp sS ss cv fa fc (pa_cd de en (s * 8 + i)) fl) : wX_crash_51 post (nI s) (n + 1) (nI i) (nI S) (nI K) (nI T) (nI C) up en me ye re ac rM wM sv sp sS ss cv fa fc de fl :=
  xcr_step s i (s * 8 + i) n rfl hs hi hT (xw_clearS s i h1 hs (by omega) (nm_r (nI_1 _) h))
theorem xcr_0 {post : Int32 → SX → Prop} (i n : Nat) (hi : i < T) (hT : T ≤ 8)
    (h : wX_crash_51 post (nI 0) n (nI (i + 1)) (nI S) (nI K) (nI T) (nI C) up (upd en i 0) (upd me i 0) (upd ye i 0) (upd re i 0) (upd ac i 0) (upd rM i 0) (upd wM i 0) sv sp sS ss cv fa fc (pa_cd de en i) fl) : wX_crash_51 post (nI 0) (n + 1) (nI i) (nI S) (nI K) (nI T) (nI C) up en me ye re ac rM wM sv sp sS ss cv fa fc de fl :=
  xcr_step 0 i i n (by omega) (by decide) hi hT (xw_clear0 i (by omega) (nm_r (nI_1 _) h))
theorem ycr_end {post : Int32 → SY → Prop} (s n : Nat) (hs : s < 5) (hT : T ≤ 8) (h : post 0 (nI S, nI K, nI T, nI C, upd uY s 0, en, sp, de, vo, na, rm, wm, sv, sW, ss, cv, ft, fa, fc)) : wY_crash_30 post (nI s) (n + 1) (nI T) (nI S) (nI K) (nI T) (nI C) uY en sp de vo na rm wm sv sW ss cv ft fa fc := by
  refine br_t (nI_le (Nat.le_refl _) (by omega)) ?_
  rw [nI_clamp (show s < 2 ^ 31 by omega), pa_nb0]
  exact ⟨vp_in_nI hs (by decide), nm_e h⟩
theorem ycr_68 {post : Int32 → SY → Prop} {J : Int32 → Int32 → Int32 → Int32 → Int32 → (Nat → Int32) → (Nat → Int32) → (Nat → Int32) → (Nat → Int32) → (Nat → Int32) → (Nat → Int32) → (Nat → Int32) → (Nat → Int32) → (Nat → Int32) → (Nat → Int32) → (Nat → Int32) → (Nat → Int32) → (Nat → Int32) → (Nat → Int32) → (Nat → Int32) → Prop} (s i c : Nat) (hc : s * 8 + i = c) (hc40 : c < 40) (h : wY_crash_80 post J (nI s) (nI i) (nI S) (nI K) (nI T) (nI C) uY en sp (upd de c 5) vo na rm wm sv sW ss cv ft fa fc) : wY_crash_68 post J (nI s) (nI i) (nI S) (nI K) (nI T) (nI C) uY en sp de vo na rm wm sv sW ss cv ft fa fc := by
  unfold wY_crash_68
  refine yw_at s i ?_
  rw [hc, nI_clamp (show c < 2 ^ 31 by omega)]
  exact ⟨vp_in_nI hc40 (by decide), nm_e h⟩
theorem ycr_step {post : Int32 → SY → Prop} (s i c n : Nat) (hc : s * 8 + i = c) (hs : s < 5) (hi : i < T) (hT : T ≤ 8)
    (h : wY_crash_80 post (wY_crash_30 post (nI s) n) (nI s) (nI i) (nI S) (nI K) (nI T) (nI C) uY en sp (pa_cd de en c) vo na rm wm sv sW ss cv ft fa fc) : wY_crash_30 post (nI s) (n + 1) (nI i) (nI S) (nI K) (nI T) (nI C) uY en sp de vo na rm wm sv sW ss cv ft fa fc := by
  have i40 : vp_in (nI c) 40 := vp_in_nI (by omega) (by decide)
  refine br_f (nI_ge hi (by omega)) (yw_at s i ?_)
  rw [hc, nI_clamp (show c < 2 ^ 31 by omega)]
  refine ⟨i40, br_c (fun e1 => ?_) (fun n1 => yw_at s i ?_)⟩
  · rw [pa_cd, if_pos (Or.inl e1)] at h
    exact ycr_68 s i c hc (by omega) h
  · rw [hc, nI_clamp (show c < 2 ^ 31 by omega)]
    refine ⟨i40, br_c (fun e2 => ?_) (fun n2 => ?_)⟩
    · rw [pa_cd, if_pos (Or.inr e2)] at h
      exact ycr_68 s i c hc (by omega) h
    · rw [pa_cd, if_neg (fun z => z.elim n1 n2)] at h
      exact h
theorem ycr_S {post : Int32 → SY → Prop} (s i n : Nat) (h1 : 1 ≤ s) (hs : s < 5) (hi : i < T) (hT : T ≤ 8) (hK : K ≤ 8)
    (h : wY_crash_30 post (nI s) n (nI (i + 1)) (nI S) (nI K) (nI T) (nI C) uY (upd en (s * 8 + i) 0) sp (pa_cd de en (s * 8 + i)) vo na (pa_zr rm ((s * 8 + i) * 8) K) (pa_zr wm ((s * 8 + i) * 8) K) sv sW ss cv ft fa fc) : wY_crash_30 post (nI s) (n + 1) (nI i) (nI S) (nI K) (nI T) (nI C) uY en sp de vo na rm wm sv sW ss cv ft fa fc :=
  ycr_step s i (s * 8 + i) n rfl hs hi hT (yw_dropS s i h1 hs (by omega) hK (nm_r (nI_1 _) h))
theorem ycr_0 {post : Int32 → SY → Prop} (i n : Nat) (hi : i < T) (hT : T ≤ 8) (hS : S ≤ 4) (hK : K ≤ 8)
    (h : wY_crash_30 post (nI 0) n (nI (i + 1)) (nI S) (nI K) (nI T) (nI C) uY (upd en i 0) sp (pa_cd de en i) (pa_vz vo i S) na (pa_zr rm (i * 8) K) (pa_zr wm (i * 8) K) sv sW ss cv ft fa fc) : wY_crash_30 post (nI 0) (n + 1) (nI i) (nI S) (nI K) (nI T) (nI C) uY en sp de vo na rm wm sv sW ss cv ft fa fc :=
  ycr_step 0 i i n (by omega) (by decide) hi hT (yw_drop0 i hS (by omega) hK (nm_r (nI_1 _) h))
end
abbrev pa_LC (S K T C s d i : Nat) (up uY en me ye re ac rM wM sv sp sS ss cv fa fc de fl vo na rm wm sW ft : Nat → Int32) : Prop :=
  ∃ (u : SX) (v : SY), pa_R S K T C u v ∧ (∀ (p : Int32 → SX → Prop) (n : Nat), d < n → p 0 u → wX_crash_51 p (nI s) n (nI i) (nI S) (nI K) (nI T) (nI C) up en me ye re ac rM wM sv sp sS ss cv fa fc de fl) ∧ (∀ (p : Int32 → SY → Prop) (n : Nat), d < n → p 0 v → wY_crash_30 p (nI s) n (nI i) (nI S) (nI K) (nI T) (nI C) uY en sp de vo na rm wm sv sW ss cv ft fa fc)
theorem lk_crL {S K T C : Nat} (s : Nat) (hs : s ≤ S) : ∀ (d i : Nat) (sv ss cv de : Nat → Int32) {up uY en me ye re ac rM wM sp sS fa fc fl vo na rm wm sW ft : Nat → Int32}, (pa_G S K T C up uY en me ye re ac rM wM sp sS fa fc fl vo na rm wm sW ft) → i + d = T → (∀ t, t < i → en (s * 8 + t) = 0) → pa_LC S K T C s d i up uY en me ye re ac rM wM sv sp sS ss cv fa fc de fl vo na rm wm sW ft := by
  intro d
  induction d with
  | zero =>
    intro i sv ss cv de up uY en me ye re ac rM wM sp sS fa fc fl vo na rm wm sW ft h hi hz
    obtain ⟨⟨_, hS⟩, ⟨_, hK⟩, ⟨_, hT⟩, ⟨_, hC⟩⟩ := h.1
    have e : T = i := by omega
    subst e
    have G' : (pa_G S K T C (upd up s 0) (upd uY s 0) en me ye re ac rM wM sp sS fa fc fl vo na rm wm sW ft) := ⟨h.1, gu_down h.2.1 s hz, h.2.2⟩
    refine ⟨_, _, pa_mk4 sv ss cv de G', fun p n hn hp => ?_, fun p n hn hp => ?_⟩
    · obtain ⟨n, rfl⟩ : ∃ q, n = q + 1 := ⟨n - 1, by omega⟩
      exact xcr_end s n (by omega) hT hp
    · obtain ⟨n, rfl⟩ : ∃ q, n = q + 1 := ⟨n - 1, by omega⟩
      exact ycr_end s n (by omega) hT hp
  | succ d ih =>
    intro i sv ss cv de up uY en me ye re ac rM wM sp sS fa fc fl vo na rm wm sW ft h hi hz
    obtain ⟨⟨_, hS⟩, ⟨_, hK⟩, ⟨_, hT⟩, ⟨_, hC⟩⟩ := h.1
    have hz' : ∀ t, t < i + 1 → upd en (s * 8 + i) 0 (s * 8 + t) = 0 := fun t ht => by
      by_cases e : t = i
      · rw [e, pk_us]
      · rw [pk_un (by omega)]
        exact hz t (by omega)
    rcases Nat.eq_zero_or_pos s with h0 | h1
    · subst h0
      have e0 : 0 * 8 + i = i := by omega
      rw [e0] at hz'
      obtain ⟨u, v, hR, hX, hY⟩ := ih (i + 1) sv ss cv (pa_cd de en i) (g_clear0 (vo' := vo) h i (by omega) (fun _ _ _ _ => rfl)) (by omega) hz'
      refine ⟨u, v, hR, fun p n hn hp => ?_, fun p n hn hp => ?_⟩
      · obtain ⟨n, rfl⟩ : ∃ q, n = q + 1 := ⟨n - 1, by omega⟩
        exact xcr_0 i n (by omega) hT (hX p n (by omega) hp)
      · obtain ⟨n, rfl⟩ : ∃ q, n = q + 1 := ⟨n - 1, by omega⟩
        exact ycr_0 i n (by omega) hT hS hK (hY p n (by omega) hp)
    · obtain ⟨u, v, hR, hX, hY⟩ := ih (i + 1) sv ss cv (pa_cd de en (s * 8 + i)) (g_clearS h s i h1 (by omega)) (by omega) hz'
      refine ⟨u, v, hR, fun p n hn hp => ?_, fun p n hn hp => ?_⟩
      · obtain ⟨n, rfl⟩ : ∃ q, n = q + 1 := ⟨n - 1, by omega⟩
        exact xcr_S s i n h1 (by omega) (by omega) hT (hX p n (by omega) hp)
      · obtain ⟨n, rfl⟩ : ∃ q, n = q + 1 := ⟨n - 1, by omega⟩
        exact ycr_S s i n h1 (by omega) (by omega) hT hK (hY p n (by omega) hp)
theorem lk_crash {S K T C : Nat} {u : SX} {v : SY} (I : pa_R S K T C u v) (s : Nat) (x : Int32) (hs : s ≤ S) :
    pa_LR S K T C (fun p => wpX_crash p u (nI s) x) (fun p => wpY_crash p v (nI s) x) := by
  refine pa_el (P := fun u v => pa_LR S K T C (fun p => wpX_crash p u (nI s) x) (fun p => wpY_crash p v (nI s) x)) ?_ I
  intro up uY en me ye re ac rM wM sv sp sS ss cv fa fc de fl vo na rm wm sW ft h
  obtain ⟨⟨_, hS⟩, ⟨_, hK⟩, ⟨_, hT⟩, ⟨_, hC⟩⟩ := h.1
  have hs5 : s < 5 := by omega
  have i5 : vp_in (nI s) 5 := vp_in_nI hs5 (by decide)
  have eu := h.2.1.1 s hs
  have hcl : (nI s).toNatClampNeg = s := nI_clamp (by omega)
  by_cases hu : up s = 0
  · refine ⟨-2, _, _, pa_mk4 sv ss cv de h, fun p hp => ?_, fun p hp => ?_⟩
    · unfold wpX_crash
      refine xw_isSite s hs hS (br_f (by decide) ?_)
      rw [hcl]
      exact ⟨i5, br_t hu hp⟩
    · unfold wpY_crash
      refine yw_badSite s hs hS (br_t rfl ?_)
      rw [hcl]
      exact ⟨i5, br_t (eu.trans hu) hp⟩
  · have hu' : ¬ uY s = 0 := by rw [eu]; exact hu
    obtain ⟨n, hn, en'⟩ := h.2.2.2.2.2.2.2.2 s hs5
    have hfa := h.2.2.2.2.2.2.2.1
    obtain ⟨m, hm, hx, hcx⟩ := xw_clampK (S := S) (K := K) (T := T) (C := C) (up := up) (en := en) (me := me) (ye := ye) (re := re) (ac := ac) (rM := rM) (wM := wM) (sv := sv) (sp := sp) (sS := sS) (ss := ss) (cv := cv) (fa := fa) (fc := fc) (de := de) (fl := fl) x n hn
    obtain ⟨u', v', hR, hX, hY⟩ := lk_crL s hs T 0 sv ss cv de (g_hd h s m) (by omega) (fun t ht => absurd ht (by omega))
    refine ⟨0, u', v', hR, fun p hp => ?_, fun p hp => ?_⟩
    · unfold wpX_crash
      refine xw_isSite s hs hS (br_f (by decide) ?_)
      rw [hcl]
      refine ⟨i5, br_f hu ⟨i5, ?_⟩⟩
      rw [en']
      exact hcx _ (xw_mfs s m hs5 (by omega) hfa ⟨i5, nm_e ⟨T + 1, hX p (T + 1) (by omega) hp⟩⟩)
    · unfold wpY_crash
      refine yw_badSite s hs hS (br_t rfl ?_)
      rw [hcl]
      exact ⟨i5, br_f hu' (yw_harden s n m x hs5 hn hm en' hx hfa ⟨T + 1, hY p (T + 1) (by omega) hp⟩)⟩
end
section
/-! restart, flush -/
section
variable {S K T C : Nat} {up uY en me ye re ac rM wM sv sp sS ss cv fa fc de fl vo na rm wm sW ft : Nat → Int32}
theorem xrs_end {post : Int32 → SX → Prop} (s n : Nat) (hT : T ≤ 8) (h : post 0 (nI S, nI K, nI T, nI C, up, en, me, ye, re, ac, rM, wM, sv, sp, sS, ss, cv, fa, fc, de, fl)) : wX_restart_31 post (nI s) (n + 1) (nI T) (nI S) (nI K) (nI T) (nI C) up en me ye re ac rM wM sv sp sS ss cv fa fc de fl :=
  br_t (nI_le (Nat.le_refl _) (by omega)) h
theorem xrs_S0 {post : Int32 → SX → Prop} (s i n : Nat) (h1 : 1 ≤ s) (hs : s < 5) (hi : i < T) (hT : T ≤ 8) (he : en (s * 8 + i) = 0) (hr : rM (s * 8 + i) = 0) (hw : wM (s * 8 + i) = 0) (hp : sp (s * 8 + i) = 0)
    (h : wX_restart_31 post (nI s) n (nI (i + 1)) (nI S) (nI K) (nI T) (nI C) up en me ye re ac rM wM sv sp sS ss cv fa fc de fl) : wX_restart_31 post (nI s) (n + 1) (nI i) (nI S) (nI K) (nI T) (nI C) up en me ye re ac rM wM sv sp sS ss cv fa fc de fl := by
  refine br_f (nI_ge hi (by omega)) (xw_clearS s i h1 hs (by omega) ?_)
  rw [pa_um he, pa_um hr, pa_um hw, pa_at, nI_clamp (show s * 8 + i < 2 ^ 31 by omega)]
  exact ⟨vp_in_nI (by omega) (by decide), br_t hp (nm_r (nI_1 _) h)⟩
theorem xrs_S3 {post : Int32 → SX → Prop} (s i n : Nat) (h1 : 1 ≤ s) (hs : s < 5) (hi : i < T) (hT : T ≤ 8) (hK : K ≤ 8) (he : en (s * 8 + i) = 0) (hr : rM (s * 8 + i) = 0) (hw : wM (s * 8 + i) = 0) (hp : sp (s * 8 + i) = 3)
    (h : wX_restart_31 post (nI s) n (nI (i + 1)) (nI S) (nI K) (nI T) (nI C) up (upd en (s * 8 + i) 3) me ye re ac rM (upd wM (s * 8 + i) (sS (s * 8 + i))) (pa_cp sv ss ((s * 8 + i) * 8) K) sp sS ss cv fa fc de (pa_snd C fl (4 * 40 + s * 8 + i))) : wX_restart_31 post (nI s) (n + 1) (nI i) (nI S) (nI K) (nI T) (nI C) up en me ye re ac rM wM sv sp sS ss cv fa fc de fl := by
  refine br_f (nI_ge hi (by omega)) (xw_clearS s i h1 hs (by omega) ?_)
  rw [pa_um he, pa_um hr, pa_um hw, pa_at, nI_clamp (show s * 8 + i < 2 ^ 31 by omega)]
  exact ⟨vp_in_nI (by omega) (by decide), br_f (by rw [hp]; decide) (br_f (nI_ne0 h1 (by omega)) (xw_recP s i hs (by omega) hK (nm_r (nI_1 _) h)))⟩
theorem xrs_00 {post : Int32 → SX → Prop} (i n : Nat) (hi : i < T) (hT : T ≤ 8) (he : en i = 0) (hr : rM i = 0) (hw : wM i = 0) (hm : me i = 0) (hy : ye i = 0) (hrr : re i = 0) (hp : sp i = 0)
    (h : wX_restart_31 post (nI 0) n (nI (i + 1)) (nI S) (nI K) (nI T) (nI C) up en me ye re (upd ac i 0) rM wM sv sp sS ss cv fa fc de fl) : wX_restart_31 post (nI 0) (n + 1) (nI i) (nI S) (nI K) (nI T) (nI C) up en me ye re ac rM wM sv sp sS ss cv fa fc de fl := by
  refine br_f (nI_ge hi (by omega)) (xw_clear0 i (by omega) ?_)
  rw [pa_um he, pa_um hr, pa_um hw, pa_um hm, pa_um hy, pa_um hrr, pa_at, show 0 * 8 + i = i by omega, nI_clamp (show i < 2 ^ 31 by omega)]
  exact ⟨vp_in_nI (by omega) (by decide), br_t hp (nm_r (nI_1 _) h)⟩
theorem xrs_04 {post : Int32 → SX → Prop} (i n : Nat) (hi : i < T) (hT : T ≤ 8) (hS : S ≤ 4) (hp : sp i = 4)
    (h : wX_restart_31 post (nI 0) n (nI (i + 1)) (nI S) (nI K) (nI T) (nI C) up (upd (upd en i 0) i 4) (upd (upd me i 0) i (sS i)) (upd ye i 0) (upd re i 0) (upd (upd ac i 0) i 0) (upd rM i 0) (upd wM i 0) sv sp sS ss cv fa fc de (pa_sd C (fun s => 5 * 40 + s * 8 + i) (bt (sS i)) fl S)) : wX_restart_31 post (nI 0) (n + 1) (nI i) (nI S) (nI K) (nI T) (nI C) up en me ye re ac rM wM sv sp sS ss cv fa fc de fl := by
  refine br_f (nI_ge hi (by omega)) (xw_clear0 i (by omega) ?_)
  rw [pa_at, show 0 * 8 + i = i by omega, nI_clamp (show i < 2 ^ 31 by omega)]
  exact ⟨vp_in_nI (by omega) (by decide), br_f (by rw [hp]; decide) (br_t rfl (xw_recC i (sS i) hS (by omega) rfl (nm_r (nI_1 _) h)))⟩
theorem yw_revL {post : SY → Prop} (s t : Nat) (hs : s < 5) (ht : t < 8) (hK : K ≤ 8) (hw : ∀ k, k < K → vp_nar .boolean (sW ((s * 8 + t) * 8 + k)) = sW ((s * 8 + t) * 8 + k))
    (h : post (nI S, nI K, nI T, nI C, uY, en, sp, de, vo, na, rm, pa_cp wm sW ((s * 8 + t) * 8) K, pa_cp sv ss ((s * 8 + t) * 8) K, sW, ss, cv, pa_snd C ft ((4 * 8 + t) * 5 + s), fa, fc)) :
    ∀ d i n : Nat, i + d = K → d < n → wY_revive_14 post (nI t) (nI s) (nI S) (nI K) (nI T) (nI C) n (nI i) uY en sp de vo na rm (pa_cp wm sW ((s * 8 + t) * 8) i) (pa_cp sv ss ((s * 8 + t) * 8) i) sW ss cv ft fa fc := by
  intro d
  induction d with
  | zero =>
    intro i n hi hn
    obtain ⟨n, rfl⟩ : ∃ q, n = q + 1 := ⟨n - 1, by omega⟩
    have e : i = K := by omega
    subst e
    exact br_t (nI_le (Nat.le_refl _) (by omega)) (yw_send 4 s t (by decide) hs ht h)
  | succ d ih =>
    intro i n hi hn
    obtain ⟨n, rfl⟩ : ∃ q, n = q + 1 := ⟨n - 1, by omega⟩
    have key := ih (i + 1) n (by omega) (by omega)
    have i3 : vp_in (nI ((s * 8 + t) * 8 + i)) 320 := vp_in_nI (by omega) (by decide)
    refine br_f (nI_ge (by omega) (by omega)) (yw_cell s t i ?_)
    rw [nI_clamp (show (s * 8 + t) * 8 + i < 2 ^ 31 by omega), hw i (by omega)]
    exact ⟨i3, i3, nm_e ⟨i3, i3, nm_e (nm_r (nI_1 _) key)⟩⟩
theorem yw_revive {post : SY → Prop} (s t : Nat) (hs : s < 5) (ht : t < 8) (hK : K ≤ 8) (hw : ∀ k, k < K → vp_nar .boolean (sW ((s * 8 + t) * 8 + k)) = sW ((s * 8 + t) * 8 + k))
    (h : post (nI S, nI K, nI T, nI C, uY, upd en (s * 8 + t) 3, sp, de, vo, na, rm, pa_cp wm sW ((s * 8 + t) * 8) K, pa_cp sv ss ((s * 8 + t) * 8) K, sW, ss, cv, pa_snd C ft ((4 * 8 + t) * 5 + s), fa, fc)) : wpY_revive post (nI S, nI K, nI T, nI C, uY, en, sp, de, vo, na, rm, wm, sv, sW, ss, cv, ft, fa, fc) (nI t) (nI s) := by
  unfold wpY_revive
  refine yw_at s t ?_
  rw [nI_clamp (show s * 8 + t < 2 ^ 31 by omega)]
  exact ⟨vp_in_nI (by omega) (by decide), nm_e ⟨K + 1, yw_revL s t hs ht hK hw h K 0 (K + 1) (by omega) (by omega)⟩⟩
theorem yrs_end {post : Int32 → SY → Prop} (s n : Nat) (hT : T ≤ 8) (h : post 0 (nI S, nI K, nI T, nI C, uY, en, sp, de, vo, na, rm, wm, sv, sW, ss, cv, ft, fa, fc)) : wY_restart_31 post (nI s) (n + 1) (nI T) (nI S) (nI K) (nI T) (nI C) uY en sp de vo na rm wm sv sW ss cv ft fa fc :=
  br_t (nI_le (Nat.le_refl _) (by omega)) h
theorem yrs_S0 {post : Int32 → SY → Prop} (s i n : Nat) (h1 : 1 ≤ s) (hs : s < 5) (hi : i < T) (hT : T ≤ 8) (hp : sp (s * 8 + i) = 0)
    (h : wY_restart_31 post (nI s) n (nI (i + 1)) (nI S) (nI K) (nI T) (nI C) uY en sp de vo na rm wm sv sW ss cv ft fa fc) : wY_restart_31 post (nI s) (n + 1) (nI i) (nI S) (nI K) (nI T) (nI C) uY en sp de vo na rm wm sv sW ss cv ft fa fc := by
  refine br_f (nI_ge hi (by omega)) (br_f (nI_ne0 h1 (by omega)) (br_f (nI_nle h1 (by omega)) (yw_at s i ?_)))
  rw [nI_clamp (show s * 8 + i < 2 ^ 31 by omega)]
  exact ⟨vp_in_nI (by omega) (by decide), br_f (by rw [hp]; decide) (nm_r (nI_1 _) h)⟩
theorem yrs_S3 {post : Int32 → SY → Prop} (s i n : Nat) (h1 : 1 ≤ s) (hs : s < 5) (hi : i < T) (hT : T ≤ 8) (hK : K ≤ 8) (hw : ∀ k, k < K → vp_nar .boolean (sW ((s * 8 + i) * 8 + k)) = sW ((s * 8 + i) * 8 + k)) (hp : sp (s * 8 + i) = 3)
    (h : wY_restart_31 post (nI s) n (nI (i + 1)) (nI S) (nI K) (nI T) (nI C) uY (upd en (s * 8 + i) 3) sp de vo na rm (pa_cp wm sW ((s * 8 + i) * 8) K) (pa_cp sv ss ((s * 8 + i) * 8) K) sW ss cv (pa_snd C ft ((4 * 8 + i) * 5 + s)) fa fc) : wY_restart_31 post (nI s) (n + 1) (nI i) (nI S) (nI K) (nI T) (nI C) uY en sp de vo na rm wm sv sW ss cv ft fa fc := by
  refine br_f (nI_ge hi (by omega)) (br_f (nI_ne0 h1 (by omega)) (br_f (nI_nle h1 (by omega)) (yw_at s i ?_)))
  rw [nI_clamp (show s * 8 + i < 2 ^ 31 by omega)]
  exact ⟨vp_in_nI (by omega) (by decide), br_t hp (yw_revive s i hs (by omega) hK hw (nm_r (nI_1 _) h))⟩
theorem yrs_00 {post : Int32 → SY → Prop} (i n : Nat) (hi : i < T) (hT : T ≤ 8) (hp : sp i = 0)
    (h : wY_restart_31 post (nI 0) n (nI (i + 1)) (nI S) (nI K) (nI T) (nI C) uY en sp de vo na rm wm sv sW ss cv ft fa fc) : wY_restart_31 post (nI 0) (n + 1) (nI i) (nI S) (nI K) (nI T) (nI C) uY en sp de vo na rm wm sv sW ss cv ft fa fc := by
  refine br_f (nI_ge hi (by omega)) (br_t rfl (yw_at0 i ?_))
  rw [nI_clamp (show i < 2 ^ 31 by omega)]
  exact ⟨vp_in_nI (by omega) (by decide), br_f (by rw [hp]; decide) (br_t (by decide) (nm_r (nI_1 _) h))⟩
theorem yrs_04 {post : Int32 → SY → Prop} (i n : Nat) (hi : i < T) (hT : T ≤ 8) (hS : S ≤ 4) (hK : K ≤ 8) (hp : sp i = 4)
    (h : wY_restart_31 post (nI 0) n (nI (i + 1)) (nI S) (nI K) (nI T) (nI C) uY (upd (upd en i 0) i 4) sp de (pa_ow na (pa_vz vo i S) i S) na (pa_zr rm (i * 8) K) (pa_zr wm (i * 8) K) sv sW ss cv (pa_sd C (fun s => (5 * 8 + i) * 5 + s) (pa_nQ na i) ft S) fa fc) : wY_restart_31 post (nI 0) (n + 1) (nI i) (nI S) (nI K) (nI T) (nI C) uY en sp de vo na rm wm sv sW ss cv ft fa fc := by
  refine br_f (nI_ge hi (by omega)) (br_t rfl (yw_at0 i ?_))
  rw [nI_clamp (show i < 2 ^ 31 by omega)]
  exact ⟨vp_in_nI (by omega) (by decide), br_t hp (yw_owe i hS (by omega) hK (br_t (by decide) (nm_r (nI_1 _) h)))⟩
theorem g_ac0 (h : (pa_G S K T C up uY en me ye re ac rM wM sp sS fa fc fl vo na rm wm sW ft)) (t : Nat) (ht : t < 8) (hm : me t = 0) : (pa_G S K T C up uY en me ye re (upd ac t 0) rM wM sp sS fa fc fl vo na rm wm sW ft) := by
  obtain ⟨sz, gu, ge, gv, gm, gs, gf, gl⟩ := h
  refine ⟨sz, gu, ge, gv_upd gv t (fun t' ht' hne => ⟨rfl, rfl, rfl, rfl, pk_un hne, fun s' g1 g2 => rfl⟩) ?_, gm, gs, gf, gl⟩
  obtain ⟨a1, a2, a3, a4, a5, a6, a7⟩ := gv t ht
  refine ⟨a1, a2, a3, a4, a5, a6, fun s g1 g2 => ?_⟩
  rw [a7 s g1 g2, hm, b_0]
  rfl
theorem g_rev (h : (pa_G S K T C up uY en me ye re ac rM wM sp sS fa fc fl vo na rm wm sW ft)) (s t : Nat) (h1 : 1 ≤ s) (hs : s < 5) (ht : t < 8) (hu : ¬ up s = 0) (h3 : sp (s * 8 + t) = 3) : (pa_G S K T C up uY (upd en (s * 8 + t) 3) me ye re ac rM (upd wM (s * 8 + t) (sS (s * 8 + t))) sp sS fa fc (pa_snd C fl (4 * 40 + s * 8 + t)) vo na rm (pa_cp wm sW ((s * 8 + t) * 8) K) sW (pa_snd C ft ((4 * 8 + t) * 5 + s))) := by
  obtain ⟨sz, gu, ge, gv, gm, gs, gf, gl⟩ := h
  obtain ⟨q1, q2⟩ := (gs.2 (s * 8 + t) (by omega) (by omega)).2 h3
  exact ⟨sz, gu_upd gu sz.2.2.1.2 s t ht (Or.inr hu), ge_upd ge _ (fun _ => Or.inr (Or.inr rfl)), gv_far gv _ (by omega), gm_rev gm sz.2.1.2 _ (by omega) q1 q2, gs, gf_snd gf sz.2.2.2.2 4 s t (by decide) hs ht, gl⟩
end
abbrev pa_LS (S K T C s d i : Nat) (up uY en me ye re ac rM wM sv sp sS ss cv fa fc de fl vo na rm wm sW ft : Nat → Int32) : Prop :=
  ∃ (u : SX) (v : SY), pa_R S K T C u v ∧ (∀ (p : Int32 → SX → Prop) (n : Nat), d < n → p 0 u → wX_restart_31 p (nI s) n (nI i) (nI S) (nI K) (nI T) (nI C) up en me ye re ac rM wM sv sp sS ss cv fa fc de fl) ∧ (∀ (p : Int32 → SY → Prop) (n : Nat), d < n → p 0 v → wY_restart_31 p (nI s) n (nI i) (nI S) (nI K) (nI T) (nI C) uY en sp de vo na rm wm sv sW ss cv ft fa fc)
theorem lk_rsL {S K T C : Nat} (s : Nat) (hs : s ≤ S) : ∀ (d i : Nat) (sv ss cv de : Nat → Int32) {up uY en me ye re ac rM wM sp sS fa fc fl vo na rm wm sW ft : Nat → Int32}, (pa_G S K T C up uY en me ye re ac rM wM sp sS fa fc fl vo na rm wm sW ft) → i + d = T → ¬ up s = 0 → (∀ t, i ≤ t → t < T → en (s * 8 + t) = 0) → pa_LS S K T C s d i up uY en me ye re ac rM wM sv sp sS ss cv fa fc de fl vo na rm wm sW ft := by
  intro d
  induction d with
  | zero =>
    intro i sv ss cv de up uY en me ye re ac rM wM sp sS fa fc fl vo na rm wm sW ft h hi hu hz
    obtain ⟨⟨_, hS⟩, ⟨_, hK⟩, ⟨_, hT⟩, ⟨_, hC⟩⟩ := h.1
    have e : T = i := by omega
    subst e
    refine ⟨_, _, pa_mk4 sv ss cv de h, fun p n hn hp => ?_, fun p n hn hp => ?_⟩
    · obtain ⟨n, rfl⟩ : ∃ q, n = q + 1 := ⟨n - 1, by omega⟩
      exact xrs_end s n hT hp
    · obtain ⟨n, rfl⟩ : ∃ q, n = q + 1 := ⟨n - 1, by omega⟩
      exact yrs_end s n hT hp
  | succ d ih =>
    intro i sv ss cv de up uY en me ye re ac rM wM sp sS fa fc fl vo na rm wm sW ft h hi hu hz
    obtain ⟨⟨_, hS⟩, ⟨_, hK⟩, ⟨_, hT⟩, ⟨_, hC⟩⟩ := h.1
    have hiT : i < T := by omega
    have he := hz i (Nat.le_refl _) hiT
    rcases Nat.eq_zero_or_pos s with h0 | h1
    · subst h0
      have e0 : 0 * 8 + i = i := by omega
      rw [e0] at he
      have ht8 : i < 8 := by omega
      obtain ⟨a1, a2, a3, a4, a5⟩ := h.2.2.2.2.1 i (by omega)
      obtain ⟨hr, hw⟩ := a3 he
      have v := h.2.2.2.1 i ht8
      have hm := v.2.2.2.2.1 he
      have hrr : re i = 0 := (pa_eq0 _).mpr fun q => by
        cases hb : bt (re i) q with
        | false => rfl
        | true =>
          have z := v.2.2.2.1 q hb
          rw [hm, b_0] at z
          exact absurd z (by decide)
      have hy : ye i = 0 := (pa_eq0 _).mpr fun q => by
        cases hb : bt (ye i) q with
        | false => rfl
        | true =>
          have z := (v.2.2.1 q hb).1
          rw [hm, b_0] at z
          exact absurd z (by decide)
      by_cases hp4 : sp i = 4
      · have G1 := g_clear0 (vo' := vo) h i ht8 (fun _ _ _ _ => rfl)
        have G2 := g_owe G1 i ht8 hp4 pk_us pk_us pk_us hu
        obtain ⟨u, v, hR, hX, hY⟩ := ih (i + 1) sv ss cv de G2 (by omega) hu (fun t g1 g2 => by
          rw [pk_un (by omega), pk_un (by omega)]
          exact hz t (by omega) g2)
        refine ⟨u, v, hR, fun p n hn hp => ?_, fun p n hn hp => ?_⟩
        · obtain ⟨n, rfl⟩ : ∃ q, n = q + 1 := ⟨n - 1, by omega⟩
          exact xrs_04 i n hiT hT hS hp4 (hX p n (by omega) hp)
        · obtain ⟨n, rfl⟩ : ∃ q, n = q + 1 := ⟨n - 1, by omega⟩
          exact yrs_04 i n hiT hT hS hK hp4 (hY p n (by omega) hp)
      · have hp0 : sp i = 0 := ((h.2.2.2.2.2.1.1 i ht8).1).resolve_right hp4
        obtain ⟨u, v, hR, hX, hY⟩ := ih (i + 1) sv ss cv de (g_ac0 h i ht8 hm) (by omega) hu (fun t g1 g2 => hz t (by omega) g2)
        refine ⟨u, v, hR, fun p n hn hp => ?_, fun p n hn hp => ?_⟩
        · obtain ⟨n, rfl⟩ : ∃ q, n = q + 1 := ⟨n - 1, by omega⟩
          exact xrs_00 i n hiT hT he hr hw hm hy hrr hp0 (hX p n (by omega) hp)
        · obtain ⟨n, rfl⟩ : ∃ q, n = q + 1 := ⟨n - 1, by omega⟩
          exact yrs_00 i n hiT hT hp0 (hY p n (by omega) hp)
    · obtain ⟨a1, a2, a3, a4, a5⟩ := h.2.2.2.2.1 (s * 8 + i) (by omega)
      obtain ⟨hr, hw⟩ := a3 he
      by_cases hp3 : sp (s * 8 + i) = 3
      · have hw1 : ∀ k, k < K → vp_nar .boolean (sW ((s * 8 + i) * 8 + k)) = sW ((s * 8 + i) * 8 + k) := fun k hk => by
          rw [((h.2.2.2.2.2.1.2 (s * 8 + i) (by omega) (by omega)).2 hp3).2 k hk, pa_nbb]
        obtain ⟨u, v, hR, hX, hY⟩ := ih (i + 1) (pa_cp sv ss ((s * 8 + i) * 8) K) ss cv de (g_rev h s i h1 (by omega) (by omega) hu hp3) (by omega) hu (fun t g1 g2 => by
          rw [pk_un (by omega)]
          exact hz t (by omega) g2)
        refine ⟨u, v, hR, fun p n hn hp => ?_, fun p n hn hp => ?_⟩
        · obtain ⟨n, rfl⟩ : ∃ q, n = q + 1 := ⟨n - 1, by omega⟩
          exact xrs_S3 s i n h1 (by omega) hiT hT hK he hr hw hp3 (hX p n (by omega) hp)
        · obtain ⟨n, rfl⟩ : ∃ q, n = q + 1 := ⟨n - 1, by omega⟩
          exact yrs_S3 s i n h1 (by omega) hiT hT hK hw1 hp3 (hY p n (by omega) hp)
      · have hp0 : sp (s * 8 + i) = 0 := ((h.2.2.2.2.2.1.2 (s * 8 + i) (by omega) (by omega)).1).resolve_right hp3
        obtain ⟨u, v, hR, hX, hY⟩ := ih (i + 1) sv ss cv de h (by omega) hu (fun t g1 g2 => hz t (by omega) g2)
        refine ⟨u, v, hR, fun p n hn hp => ?_, fun p n hn hp => ?_⟩
        · obtain ⟨n, rfl⟩ : ∃ q, n = q + 1 := ⟨n - 1, by omega⟩
          exact xrs_S0 s i n h1 (by omega) hiT hT he hr hw hp0 (hX p n (by omega) hp)
        · obtain ⟨n, rfl⟩ : ∃ q, n = q + 1 := ⟨n - 1, by omega⟩
          exact yrs_S0 s i n h1 (by omega) hiT hT hp0 (hY p n (by omega) hp)
theorem lk_restart {S K T C : Nat} {u : SX} {v : SY} (I : pa_R S K T C u v) (s : Nat) (hs : s ≤ S) :
    pa_LR S K T C (fun p => wpX_restart p u (nI s)) (fun p => wpY_restart p v (nI s)) := by
  refine pa_el (P := fun u v => pa_LR S K T C (fun p => wpX_restart p u (nI s)) (fun p => wpY_restart p v (nI s))) ?_ I
  intro up uY en me ye re ac rM wM sv sp sS ss cv fa fc de fl vo na rm wm sW ft h
  obtain ⟨⟨_, hS⟩, ⟨_, hK⟩, ⟨_, hT⟩, ⟨_, hC⟩⟩ := h.1
  have hs5 : s < 5 := by omega
  have i5 : vp_in (nI s) 5 := vp_in_nI hs5 (by decide)
  have eu := h.2.1.1 s hs
  have hcl : (nI s).toNatClampNeg = s := nI_clamp (by omega)
  by_cases hu : up s = 0
  · have G' : (pa_G S K T C (upd up s 1) (upd uY s 1) en me ye re ac rM wM sp sS fa fc fl vo na rm wm sW ft) := ⟨h.1, gu_rise h.2.1 s, h.2.2⟩
    obtain ⟨u', v', hR, hX, hY⟩ := lk_rsL s hs T 0 sv ss cv de G' (by omega) (by rw [pk_us]; decide) (fun t _ g2 => h.2.1.2 s t hs g2 hu)
    refine ⟨0, u', v', hR, fun p hp => ?_, fun p hp => ?_⟩
    · unfold wpX_restart
      refine xw_isSite s hs hS (br_f (by decide) ?_)
      rw [hcl, pa_nb1]
      exact ⟨i5, br_t hu ⟨i5, nm_e ⟨T + 1, hX p (T + 1) (by omega) hp⟩⟩⟩
    · unfold wpY_restart
      refine yw_badSite s hs hS (br_t rfl ?_)
      rw [hcl, pa_nb1]
      exact ⟨i5, br_t (eu.trans hu) ⟨i5, nm_e ⟨T + 1, hY p (T + 1) (by omega) hp⟩⟩⟩
  · have hu' : ¬ uY s = 0 := by rw [eu]; exact hu
    refine ⟨-3, _, _, pa_mk4 sv ss cv de h, fun p hp => ?_, fun p hp => ?_⟩
    · unfold wpX_restart
      refine xw_isSite s hs hS (br_f (by decide) ?_)
      rw [hcl]
      exact ⟨i5, br_f hu hp⟩
    · unfold wpY_restart
      refine yw_badSite s hs hS (br_t rfl ?_)
      rw [hcl]
      exact ⟨i5, br_f hu' hp⟩
theorem lk_flush {S K T C : Nat} {u : SX} {v : SY} (I : pa_R S K T C u v) (s : Nat) (hs : s ≤ S) :
    pa_LR S K T C (fun p => wpX_flush p u (nI s)) (fun p => wpY_flush p v (nI s)) := by
  refine pa_el (P := fun u v => pa_LR S K T C (fun p => wpX_flush p u (nI s)) (fun p => wpY_flush p v (nI s))) ?_ I
  intro up uY en me ye re ac rM wM sv sp sS ss cv fa fc de fl vo na rm wm sW ft h
  obtain ⟨⟨_, hS⟩, ⟨_, hK⟩, ⟨_, hT⟩, ⟨_, hC⟩⟩ := h.1
  have hs5 : s < 5 := by omega
  have i5 : vp_in (nI s) 5 := vp_in_nI hs5 (by decide)
  have eu := h.2.1.1 s hs
  have hcl : (nI s).toNatClampNeg = s := nI_clamp (by omega)
  by_cases hu : up s = 0
  · refine ⟨-2, _, _, pa_mk4 sv ss cv de h, fun p hp => ?_, fun p hp => ?_⟩
    · unfold wpX_flush
      refine xw_isSite s hs hS (br_f (by decide) ?_)
      rw [hcl]
      exact ⟨i5, br_t hu hp⟩
    · unfold wpY_flush
      refine yw_badSite s hs hS (br_t rfl ?_)
      rw [hcl]
      exact ⟨i5, br_t (eu.trans hu) hp⟩
  · have hu' : ¬ uY s = 0 := by rw [eu]; exact hu
    obtain ⟨n, hn, en'⟩ := h.2.2.2.2.2.2.2.2 s hs5
    have hfa := h.2.2.2.2.2.2.2.1
    refine ⟨0, _, _, pa_mk4 sv ss cv de (g_hd h s n), fun p hp => ?_, fun p hp => ?_⟩
    · unfold wpX_flush
      refine xw_isSite s hs hS (br_f (by decide) ?_)
      rw [hcl]
      exact ⟨i5, br_f hu (xw_force s n hs5 hn hfa en' hp)⟩
    · unfold wpY_flush
      refine yw_badSite s hs hS (br_t rfl ?_)
      rw [hcl]
      exact ⟨i5, br_f hu' (yw_harden8 s n hs5 hn en' hfa hp)⟩
end
section
/-! sweep, settle -/
abbrev pa_TX : Type := Int32 → Int32 → Int32 → Int32 → (Nat → Int32) → (Nat → Int32) → (Nat → Int32) → (Nat → Int32) → (Nat → Int32) → (Nat → Int32) → (Nat → Int32) → (Nat → Int32) → (Nat → Int32) → (Nat → Int32) → (Nat → Int32) → (Nat → Int32) → (Nat → Int32) → (Nat → Int32) → (Nat → Int32) → (Nat → Int32) → (Nat → Int32) → Prop
abbrev pa_TY : Type := Int32 → Int32 → Int32 → Int32 → (Nat → Int32) → (Nat → Int32) → (Nat → Int32) → (Nat → Int32) → (Nat → Int32) → (Nat → Int32) → (Nat → Int32) → (Nat → Int32) → (Nat → Int32) → (Nat → Int32) → (Nat → Int32) → (Nat → Int32) → (Nat → Int32) → (Nat → Int32) → (Nat → Int32) → Prop
def pa_cX (J : pa_TX) (u : SX) : Prop := match u with
  | (b1, b2, b3, b4, b5, b6, b7, b8, b9, b10, b11, b12, b13, b14, b15, b16, b17, b18, b19, b20, b21) => J b1 b2 b3 b4 b5 b6 b7 b8 b9 b10 b11 b12 b13 b14 b15 b16 b17 b18 b19 b20 b21
def pa_cY (J : pa_TY) (v : SY) : Prop := match v with
  | (b1, b2, b3, b4, b5, b6, b7, b8, b9, b10, b11, b12, b13, b14, b15, b16, b17, b18, b19) => J b1 b2 b3 b4 b5 b6 b7 b8 b9 b10 b11 b12 b13 b14 b15 b16 b17 b18 b19
theorem lk_sw4 {S K T C : Nat} (k s t c : Nat) (hk : k < 8) (h1 : 1 ≤ s) (hs : s ≤ S) (ht : t < T) (hc : c ≤ 3) : ∀ (d i : Nat) {u : SX} {v : SY}, pa_R S K T C u v → i + d = c →
    ∃ (u' : SX) (v' : SY), pa_R S K T C u' v' ∧
      (∀ (p : SX → Prop) (J2 J10 J20 : Int32 → pa_TX) (n : Nat), d < n → pa_cX (J20 (nI (s + 1))) u' → pa_cX (wX_sweep_49 p J2 J10 J20 (nI k) (nI t) (nI s) (nI c) n (nI i)) u) ∧
      (∀ (p : SY → Prop) (J2 J10 J20 : Int32 → pa_TY) (n : Nat), d < n → pa_cY (J20 (nI (s + 1))) v' → pa_cY (wY_sweep_45 p J2 J10 J20 (nI k) (nI t) (nI s) (nI c) n (nI i)) v) := by
  intro d
  induction d with
  | zero =>
    intro i u v I hi
    have e : c = i := by omega
    subst e
    obtain ⟨a1, a2, a3, a4, a5, a6, a7, a8, a9, a10, a11, a12, a13, a14, a15, a16, a17, a18, a19, a20, a21⟩ := u
    obtain ⟨b1, b2, b3, b4, b5, b6, b7, b8, b9, b10, b11, b12, b13, b14, b15, b16, b17, b18, b19⟩ := v
    refine ⟨_, _, I, fun p J2 J10 J20 n hn hp => ?_, fun p J2 J10 J20 n hn hp => ?_⟩
    · obtain ⟨n, rfl⟩ : ∃ q, n = q + 1 := ⟨n - 1, by omega⟩
      exact br_t (nI_le (Nat.le_refl _) (by omega)) (nm_r (nI_1 _) hp)
    · obtain ⟨n, rfl⟩ : ∃ q, n = q + 1 := ⟨n - 1, by omega⟩
      exact br_t (nI_le (Nat.le_refl _) (by omega)) (nm_r (nI_1 _) hp)
  | succ d ih =>
    intro i u v I hi
    obtain ⟨r, u1, v1, I1, hA, hB⟩ := lk_deliver I k s t hk h1 hs ht
    obtain ⟨u2, v2, I2, hX, hY⟩ := ih (i + 1) I1 (by omega)
    obtain ⟨a1, a2, a3, a4, a5, a6, a7, a8, a9, a10, a11, a12, a13, a14, a15, a16, a17, a18, a19, a20, a21⟩ := u
    obtain ⟨b1, b2, b3, b4, b5, b6, b7, b8, b9, b10, b11, b12, b13, b14, b15, b16, b17, b18, b19⟩ := v
    obtain ⟨c1, c2, c3, c4, c5, c6, c7, c8, c9, c10, c11, c12, c13, c14, c15, c16, c17, c18, c19, c20, c21⟩ := u1
    obtain ⟨d1, d2, d3, d4, d5, d6, d7, d8, d9, d10, d11, d12, d13, d14, d15, d16, d17, d18, d19⟩ := v1
    refine ⟨u2, v2, I2, fun p J2 J10 J20 n hn hp => ?_, fun p J2 J10 J20 n hn hp => ?_⟩
    · obtain ⟨n, rfl⟩ : ∃ q, n = q + 1 := ⟨n - 1, by omega⟩
      exact br_f (nI_ge (by omega) (by omega)) (hA _ (nm_r (nI_1 _) (hX p J2 J10 J20 n (by omega) hp)))
    · obtain ⟨n, rfl⟩ : ∃ q, n = q + 1 := ⟨n - 1, by omega⟩
      exact br_f (nI_ge (by omega) (by omega)) (hB _ (nm_r (nI_1 _) (hY p J2 J10 J20 n (by omega) hp)))
section
variable {S K T C : Nat} {up uY en me ye re ac rM wM sv sp sS ss cv fa fc de fl vo na rm wm sW ft : Nat → Int32}
theorem xsw_20e {p : SX → Prop} {J2 J10 : Int32 → pa_TX} (k t n : Nat) (hS : S ≤ 4) (h : J10 (nI (t + 1)) (nI S) (nI K) (nI T) (nI C) up en me ye re ac rM wM sv sp sS ss cv fa fc de fl) : wX_sweep_20 p J2 J10 (nI k) (nI t) (n + 1) (nI (S + 1)) (nI S) (nI K) (nI T) (nI C) up en me ye re ac rM wM sv sp sS ss cv fa fc de fl :=
  br_t (nI_lt (by omega) (by omega)) (nm_r (nI_1 _) h)
theorem xsw_20s {p : SX → Prop} {J2 J10 : Int32 → pa_TX} (k t s c n : Nat) (hk : k < 8) (ht : t < 8) (hs : s ≤ S) (hS : S ≤ 4) (hc : fl (k * 40 + s * 8 + t) = nI c)
    (h : ∃ q, wX_sweep_49 p J2 J10 (wX_sweep_20 p J2 J10 (nI k) (nI t) n) (nI k) (nI t) (nI s) (nI c) q (nI 0) (nI S) (nI K) (nI T) (nI C) up en me ye re ac rM wM sv sp sS ss cv fa fc de fl) : wX_sweep_20 p J2 J10 (nI k) (nI t) (n + 1) (nI s) (nI S) (nI K) (nI T) (nI C) up en me ye re ac rM wM sv sp sS ss cv fa fc de fl := by
  refine br_f (nI_nlt (by omega) (by omega)) ?_
  rw [pa_fx, nI_clamp (show k * 40 + s * 8 + t < 2 ^ 31 by omega)]
  exact ⟨vp_in_nI (by omega) (by decide), nm_r hc h⟩
theorem ysw_20e {p : SY → Prop} {J2 J10 : Int32 → pa_TY} (k t n : Nat) (hS : S ≤ 4) (h : J10 (nI (t + 1)) (nI S) (nI K) (nI T) (nI C) uY en sp de vo na rm wm sv sW ss cv ft fa fc) : wY_sweep_20 p J2 J10 (nI k) (nI t) (n + 1) (nI (S + 1)) (nI S) (nI K) (nI T) (nI C) uY en sp de vo na rm wm sv sW ss cv ft fa fc :=
  br_t (nI_lt (by omega) (by omega)) (nm_r (nI_1 _) h)
theorem ysw_20s {p : SY → Prop} {J2 J10 : Int32 → pa_TY} (k t s c n : Nat) (hk : k < 8) (ht : t < 8) (hs : s ≤ S) (hS : S ≤ 4) (hc : ft ((k * 8 + t) * 5 + s) = nI c)
    (h : ∃ q, wY_sweep_45 p J2 J10 (wY_sweep_20 p J2 J10 (nI k) (nI t) n) (nI k) (nI t) (nI s) (nI c) q (nI 0) (nI S) (nI K) (nI T) (nI C) uY en sp de vo na rm wm sv sW ss cv ft fa fc) : wY_sweep_20 p J2 J10 (nI k) (nI t) (n + 1) (nI s) (nI S) (nI K) (nI T) (nI C) uY en sp de vo na rm wm sv sW ss cv ft fa fc := by
  refine br_f (nI_nlt (by omega) (by omega)) (yw_wire k t s ?_)
  rw [nI_clamp (show (k * 8 + t) * 5 + s < 2 ^ 31 by omega)]
  exact ⟨vp_in_nI (by omega) (by decide), nm_r hc h⟩
end
theorem lk_sw3 {S K T C : Nat} (k t : Nat) (hk : k < 8) (ht : t < T) : ∀ (d i : Nat) {u : SX} {v : SY}, pa_R S K T C u v → i + d = S →
    ∃ (u' : SX) (v' : SY), pa_R S K T C u' v' ∧
      (∀ (p : SX → Prop) (J2 J10 : Int32 → pa_TX) (n : Nat), d < n → pa_cX (J10 (nI (t + 1))) u' → pa_cX (wX_sweep_20 p J2 J10 (nI k) (nI t) n (nI (i + 1))) u) ∧
      (∀ (p : SY → Prop) (J2 J10 : Int32 → pa_TY) (n : Nat), d < n → pa_cY (J10 (nI (t + 1))) v' → pa_cY (wY_sweep_20 p J2 J10 (nI k) (nI t) n (nI (i + 1))) v) := by
  intro d
  induction d with
  | zero =>
    intro i u v I hi
    refine pa_el (P := fun u v => ∃ (u' : SX) (v' : SY), pa_R S K T C u' v' ∧
      (∀ (p : SX → Prop) (J2 J10 : Int32 → pa_TX) (n : Nat), 0 < n → pa_cX (J10 (nI (t + 1))) u' → pa_cX (wX_sweep_20 p J2 J10 (nI k) (nI t) n (nI (i + 1))) u) ∧
      (∀ (p : SY → Prop) (J2 J10 : Int32 → pa_TY) (n : Nat), 0 < n → pa_cY (J10 (nI (t + 1))) v' → pa_cY (wY_sweep_20 p J2 J10 (nI k) (nI t) n (nI (i + 1))) v)) ?_ I
    intro up uY en me ye re ac rM wM sv sp sS ss cv fa fc de fl vo na rm wm sW ft h
    obtain ⟨⟨_, hS⟩, ⟨_, hK⟩, ⟨_, hT⟩, ⟨_, hC⟩⟩ := h.1
    have e : S = i := by omega
    subst e
    refine ⟨_, _, pa_mk4 sv ss cv de h, fun p J2 J10 n hn hp => ?_, fun p J2 J10 n hn hp => ?_⟩
    · obtain ⟨n, rfl⟩ : ∃ q, n = q + 1 := ⟨n - 1, by omega⟩
      exact xsw_20e k t n hS hp
    · obtain ⟨n, rfl⟩ : ∃ q, n = q + 1 := ⟨n - 1, by omega⟩
      exact ysw_20e k t n hS hp
  | succ d ih =>
    intro i u v I hi
    have step : ∃ c, c ≤ 3 ∧ (∀ (p : SX → Prop) (J2 J10 : Int32 → pa_TX) (n q : Nat), pa_cX (wX_sweep_49 p J2 J10 (wX_sweep_20 p J2 J10 (nI k) (nI t) n) (nI k) (nI t) (nI (i + 1)) (nI c) q (nI 0)) u → pa_cX (wX_sweep_20 p J2 J10 (nI k) (nI t) (n + 1) (nI (i + 1))) u) ∧
        (∀ (p : SY → Prop) (J2 J10 : Int32 → pa_TY) (n q : Nat), pa_cY (wY_sweep_45 p J2 J10 (wY_sweep_20 p J2 J10 (nI k) (nI t) n) (nI k) (nI t) (nI (i + 1)) (nI c) q (nI 0)) v → pa_cY (wY_sweep_20 p J2 J10 (nI k) (nI t) (n + 1) (nI (i + 1))) v) := by
      refine pa_el (P := fun u v => ∃ c, c ≤ 3 ∧ (∀ (p : SX → Prop) (J2 J10 : Int32 → pa_TX) (n q : Nat), pa_cX (wX_sweep_49 p J2 J10 (wX_sweep_20 p J2 J10 (nI k) (nI t) n) (nI k) (nI t) (nI (i + 1)) (nI c) q (nI 0)) u → pa_cX (wX_sweep_20 p J2 J10 (nI k) (nI t) (n + 1) (nI (i + 1))) u) ∧
        (∀ (p : SY → Prop) (J2 J10 : Int32 → pa_TY) (n q : Nat), pa_cY (wY_sweep_45 p J2 J10 (wY_sweep_20 p J2 J10 (nI k) (nI t) n) (nI k) (nI t) (nI (i + 1)) (nI c) q (nI 0)) v → pa_cY (wY_sweep_20 p J2 J10 (nI k) (nI t) (n + 1) (nI (i + 1))) v)) ?_ I
      intro up uY en me ye re ac rM wM sv sp sS ss cv fa fc de fl vo na rm wm sW ft h
      obtain ⟨⟨_, hS⟩, ⟨_, hK⟩, ⟨_, hT⟩, ⟨_, hC⟩⟩ := h.1
      obtain ⟨e1, c, hc, e2⟩ := h.2.2.2.2.2.2.1 k (i + 1) t hk (by omega) (by omega)
      exact ⟨c, hc, fun p J2 J10 n q hp => xsw_20s k t (i + 1) c n hk (by omega) (by omega) hS e2 ⟨q, hp⟩, fun p J2 J10 n q hp => ysw_20s k t (i + 1) c n hk (by omega) (by omega) hS (e1.trans e2) ⟨q, hp⟩⟩
    obtain ⟨c, hc, sX, sY⟩ := step
    obtain ⟨u1, v1, I1, hX1, hY1⟩ := lk_sw4 k (i + 1) t c hk (by omega) (by omega) ht hc c 0 I (by omega)
    obtain ⟨u2, v2, I2, hX2, hY2⟩ := ih (i + 1) I1 (by omega)
    refine ⟨u2, v2, I2, fun p J2 J10 n hn hp => ?_, fun p J2 J10 n hn hp => ?_⟩
    · obtain ⟨n, rfl⟩ : ∃ q, n = q + 1 := ⟨n - 1, by omega⟩
      exact sX p J2 J10 n (c + 1) (hX1 p J2 J10 _ (c + 1) (by omega) (hX2 p J2 J10 n (by omega) hp))
    · obtain ⟨n, rfl⟩ : ∃ q, n = q + 1 := ⟨n - 1, by omega⟩
      exact sY p J2 J10 n (c + 1) (hY1 p J2 J10 _ (c + 1) (by omega) (hY2 p J2 J10 n (by omega) hp))
section
variable {S K T C : Nat} {up uY en me ye re ac rM wM sv sp sS ss cv fa fc de fl vo na rm wm sW ft : Nat → Int32}
theorem xsw_10e {p : SX → Prop} {J2 : Int32 → pa_TX} (k n : Nat) (hT : T ≤ 8) (h : J2 (nI (k + 1)) (nI S) (nI K) (nI T) (nI C) up en me ye re ac rM wM sv sp sS ss cv fa fc de fl) : wX_sweep_10 p J2 (nI k) (n + 1) (nI T) (nI S) (nI K) (nI T) (nI C) up en me ye re ac rM wM sv sp sS ss cv fa fc de fl :=
  br_t (nI_le (Nat.le_refl _) (by omega)) (nm_r (nI_1 _) h)
theorem xsw_10s {p : SX → Prop} {J2 : Int32 → pa_TX} (k t n : Nat) (ht : t < T) (hT : T ≤ 8) (h : ∃ q, wX_sweep_20 p J2 (wX_sweep_10 p J2 (nI k) n) (nI k) (nI t) q (nI (0 + 1)) (nI S) (nI K) (nI T) (nI C) up en me ye re ac rM wM sv sp sS ss cv fa fc de fl) : wX_sweep_10 p J2 (nI k) (n + 1) (nI t) (nI S) (nI K) (nI T) (nI C) up en me ye re ac rM wM sv sp sS ss cv fa fc de fl :=
  br_f (nI_ge ht (by omega)) h
theorem ysw_10e {p : SY → Prop} {J2 : Int32 → pa_TY} (k n : Nat) (hT : T ≤ 8) (h : J2 (nI (k + 1)) (nI S) (nI K) (nI T) (nI C) uY en sp de vo na rm wm sv sW ss cv ft fa fc) : wY_sweep_10 p J2 (nI k) (n + 1) (nI T) (nI S) (nI K) (nI T) (nI C) uY en sp de vo na rm wm sv sW ss cv ft fa fc :=
  br_t (nI_le (Nat.le_refl _) (by omega)) (nm_r (nI_1 _) h)
theorem ysw_10s {p : SY → Prop} {J2 : Int32 → pa_TY} (k t n : Nat) (ht : t < T) (hT : T ≤ 8) (h : ∃ q, wY_sweep_20 p J2 (wY_sweep_10 p J2 (nI k) n) (nI k) (nI t) q (nI (0 + 1)) (nI S) (nI K) (nI T) (nI C) uY en sp de vo na rm wm sv sW ss cv ft fa fc) : wY_sweep_10 p J2 (nI k) (n + 1) (nI t) (nI S) (nI K) (nI T) (nI C) uY en sp de vo na rm wm sv sW ss cv ft fa fc :=
  br_f (nI_ge ht (by omega)) h
end
theorem lk_sw2 {S K T C : Nat} (k : Nat) (hk : k < 8) : ∀ (d i : Nat) {u : SX} {v : SY}, pa_R S K T C u v → i + d = T →
    ∃ (u' : SX) (v' : SY), pa_R S K T C u' v' ∧
      (∀ (p : SX → Prop) (J2 : Int32 → pa_TX) (n : Nat), d < n → pa_cX (J2 (nI (k + 1))) u' → pa_cX (wX_sweep_10 p J2 (nI k) n (nI i)) u) ∧
      (∀ (p : SY → Prop) (J2 : Int32 → pa_TY) (n : Nat), d < n → pa_cY (J2 (nI (k + 1))) v' → pa_cY (wY_sweep_10 p J2 (nI k) n (nI i)) v) := by
  intro d
  induction d with
  | zero =>
    intro i u v I hi
    refine pa_el (P := fun u v => ∃ (u' : SX) (v' : SY), pa_R S K T C u' v' ∧
      (∀ (p : SX → Prop) (J2 : Int32 → pa_TX) (n : Nat), 0 < n → pa_cX (J2 (nI (k + 1))) u' → pa_cX (wX_sweep_10 p J2 (nI k) n (nI i)) u) ∧
      (∀ (p : SY → Prop) (J2 : Int32 → pa_TY) (n : Nat), 0 < n → pa_cY (J2 (nI (k + 1))) v' → pa_cY (wY_sweep_10 p J2 (nI k) n (nI i)) v)) ?_ I
    intro up uY en me ye re ac rM wM sv sp sS ss cv fa fc de fl vo na rm wm sW ft h
    obtain ⟨⟨_, hS⟩, ⟨_, hK⟩, ⟨_, hT⟩, ⟨_, hC⟩⟩ := h.1
    have e : T = i := by omega
    subst e
    refine ⟨_, _, pa_mk4 sv ss cv de h, fun p J2 n hn hp => ?_, fun p J2 n hn hp => ?_⟩
    · obtain ⟨n, rfl⟩ : ∃ q, n = q + 1 := ⟨n - 1, by omega⟩
      exact xsw_10e k n hT hp
    · obtain ⟨n, rfl⟩ : ∃ q, n = q + 1 := ⟨n - 1, by omega⟩
      exact ysw_10e k n hT hp
  | succ d ih =>
    intro i u v I hi
    have step : (∀ (p : SX → Prop) (J2 : Int32 → pa_TX) (n q : Nat), pa_cX (wX_sweep_20 p J2 (wX_sweep_10 p J2 (nI k) n) (nI k) (nI i) q (nI (0 + 1))) u → pa_cX (wX_sweep_10 p J2 (nI k) (n + 1) (nI i)) u) ∧
        (∀ (p : SY → Prop) (J2 : Int32 → pa_TY) (n q : Nat), pa_cY (wY_sweep_20 p J2 (wY_sweep_10 p J2 (nI k) n) (nI k) (nI i) q (nI (0 + 1))) v → pa_cY (wY_sweep_10 p J2 (nI k) (n + 1) (nI i)) v) := by
      refine pa_el (P := fun u v => (∀ (p : SX → Prop) (J2 : Int32 → pa_TX) (n q : Nat), pa_cX (wX_sweep_20 p J2 (wX_sweep_10 p J2 (nI k) n) (nI k) (nI i) q (nI (0 + 1))) u → pa_cX (wX_sweep_10 p J2 (nI k) (n + 1) (nI i)) u) ∧
        (∀ (p : SY → Prop) (J2 : Int32 → pa_TY) (n q : Nat), pa_cY (wY_sweep_20 p J2 (wY_sweep_10 p J2 (nI k) n) (nI k) (nI i) q (nI (0 + 1))) v → pa_cY (wY_sweep_10 p J2 (nI k) (n + 1) (nI i)) v)) ?_ I
      intro up uY en me ye re ac rM wM sv sp sS ss cv fa fc de fl vo na rm wm sW ft h
      obtain ⟨⟨_, hS⟩, ⟨_, hK⟩, ⟨_, hT⟩, ⟨_, hC⟩⟩ := h.1
      exact ⟨fun p J2 n q hp => xsw_10s k i n (by omega) hT ⟨q, hp⟩, fun p J2 n q hp => ysw_10s k i n (by omega) hT ⟨q, hp⟩⟩
    obtain ⟨sX, sY⟩ := step
    obtain ⟨u1, v1, I1, hX1, hY1⟩ := lk_sw3 k i hk (by omega) S 0 I (by omega)
    obtain ⟨u2, v2, I2, hX2, hY2⟩ := ih (i + 1) I1 (by omega)
    refine ⟨u2, v2, I2, fun p J2 n hn hp => ?_, fun p J2 n hn hp => ?_⟩
    · obtain ⟨n, rfl⟩ : ∃ q, n = q + 1 := ⟨n - 1, by omega⟩
      exact sX p J2 n (S + 1) (hX1 p J2 _ (S + 1) (by omega) (hX2 p J2 n (by omega) hp))
    · obtain ⟨n, rfl⟩ : ∃ q, n = q + 1 := ⟨n - 1, by omega⟩
      exact sY p J2 n (S + 1) (hY1 p J2 _ (S + 1) (by omega) (hY2 p J2 n (by omega) hp))
theorem lk_sw1 {S K T C : Nat} : ∀ (d i : Nat) {u : SX} {v : SY}, pa_R S K T C u v → i + d = 8 →
    ∃ (u' : SX) (v' : SY), pa_R S K T C u' v' ∧
      (∀ (p : SX → Prop) (n : Nat), d < n → p u' → pa_cX (wX_sweep_2 p n (nI i)) u) ∧
      (∀ (p : SY → Prop) (n : Nat), d < n → p v' → pa_cY (wY_sweep_2 p n (nI i)) v) := by
  intro d
  induction d with
  | zero =>
    intro i u v I hi
    have e : i = 8 := by omega
    subst e
    obtain ⟨a1, a2, a3, a4, a5, a6, a7, a8, a9, a10, a11, a12, a13, a14, a15, a16, a17, a18, a19, a20, a21⟩ := u
    obtain ⟨b1, b2, b3, b4, b5, b6, b7, b8, b9, b10, b11, b12, b13, b14, b15, b16, b17, b18, b19⟩ := v
    refine ⟨_, _, I, fun p n hn hp => ?_, fun p n hn hp => ?_⟩
    · obtain ⟨n, rfl⟩ : ∃ q, n = q + 1 := ⟨n - 1, by omega⟩
      exact br_t (by decide) hp
    · obtain ⟨n, rfl⟩ : ∃ q, n = q + 1 := ⟨n - 1, by omega⟩
      exact br_t (by decide) hp
  | succ d ih =>
    intro i u v I hi
    obtain ⟨u1, v1, I1, hX1, hY1⟩ := lk_sw2 i (by omega) T 0 I (by omega)
    obtain ⟨u2, v2, I2, hX2, hY2⟩ := ih (i + 1) I1 (by omega)
    obtain ⟨a1, a2, a3, a4, a5, a6, a7, a8, a9, a10, a11, a12, a13, a14, a15, a16, a17, a18, a19, a20, a21⟩ := u
    obtain ⟨b1, b2, b3, b4, b5, b6, b7, b8, b9, b10, b11, b12, b13, b14, b15, b16, b17, b18, b19⟩ := v
    refine ⟨u2, v2, I2, fun p n hn hp => ?_, fun p n hn hp => ?_⟩
    · obtain ⟨n, rfl⟩ : ∃ q, n = q + 1 := ⟨n - 1, by omega⟩
      exact br_f (nI_ge (b := 8) (by omega) (by decide)) ⟨T + 1, hX1 p _ (T + 1) (by omega) (hX2 p n (by omega) hp)⟩
    · obtain ⟨n, rfl⟩ : ∃ q, n = q + 1 := ⟨n - 1, by omega⟩
      exact br_f (nI_ge (b := 8) (by omega) (by decide)) ⟨T + 1, hY1 p _ (T + 1) (by omega) (hY2 p n (by omega) hp)⟩
theorem lk_sweep {S K T C : Nat} {u : SX} {v : SY} (I : pa_R S K T C u v) : pa_L S K T C (fun p => wpX_sweep p u) (fun p => wpY_sweep p v) := by
  obtain ⟨u2, v2, I2, hX2, hY2⟩ := lk_sw1 8 0 I (by omega)
  obtain ⟨a1, a2, a3, a4, a5, a6, a7, a8, a9, a10, a11, a12, a13, a14, a15, a16, a17, a18, a19, a20, a21⟩ := u
  obtain ⟨b1, b2, b3, b4, b5, b6, b7, b8, b9, b10, b11, b12, b13, b14, b15, b16, b17, b18, b19⟩ := v
  exact ⟨u2, v2, I2, fun p hp => Exists.intro 9 (hX2 p 9 (by omega) hp), fun p hp => Exists.intro 9 (hY2 p 9 (by omega) hp)⟩
end
section
/-! settle -/
section
variable {S K T C : Nat} {up uY en me ye re ac rM wM sv sp sS ss cv fa fc de fl vo na rm wm sW ft : Nat → Int32}
theorem xst_77s {p : Int32 → SX → Prop} (i n m : Nat) (hi : i ≤ S) (hS : S ≤ 4) (hm : m ≤ 8) (hfa : ∀ j, j < 40 → ∃ g, g < 8 ∧ fa j = nI g) (hc : fc i = nI m)
    (h : wX_settle_77 p n (nI (i + 1)) (nI S) (nI K) (nI T) (nI C) up en me ye re ac rM wM sv (pa_hd fa i sp m) (pa_hd fa i sS m) ss cv fa (upd fc i 0) de fl) : wX_settle_77 p (n + 1) (nI i) (nI S) (nI K) (nI T) (nI C) up en me ye re ac rM wM sv sp sS ss cv fa fc de fl :=
  br_f (nI_nlt hi (by omega)) (xw_force i m (by omega) hm hfa hc (nm_r (nI_1 _) h))
theorem yst_77s {p : Int32 → SY → Prop} (i n m : Nat) (hi : i ≤ S) (hS : S ≤ 4) (hm : m ≤ 8) (hfa : ∀ j, j < 40 → ∃ g, g < 8 ∧ fa j = nI g) (hc : fc i = nI m)
    (h : wY_settle_77 p n (nI (i + 1)) (nI S) (nI K) (nI T) (nI C) uY en (pa_hd fa i sp m) de vo na rm wm sv sW ss cv ft fa (upd fc i 0)) : wY_settle_77 p (n + 1) (nI i) (nI S) (nI K) (nI T) (nI C) uY en sp de vo na rm wm sv sW ss cv ft fa fc :=
  br_f (nI_nlt hi (by omega)) (yw_harden8 i m (by omega) hm hc hfa (nm_r (nI_1 _) h))
theorem xst_77e {p : Int32 → SX → Prop} (i n : Nat) (hi : i = S + 1) (hS : S ≤ 4) (h : p 0 (nI S, nI K, nI T, nI C, up, en, me, ye, re, ac, rM, wM, sv, sp, sS, ss, cv, fa, fc, de, fl)) : wX_settle_77 p (n + 1) (nI i) (nI S) (nI K) (nI T) (nI C) up en me ye re ac rM wM sv sp sS ss cv fa fc de fl :=
  br_t (nI_lt (by omega) (by omega)) h
theorem yst_77e {p : Int32 → SY → Prop} (i n : Nat) (hi : i = S + 1) (hS : S ≤ 4) (h : p 0 (nI S, nI K, nI T, nI C, uY, en, sp, de, vo, na, rm, wm, sv, sW, ss, cv, ft, fa, fc)) : wY_settle_77 p (n + 1) (nI i) (nI S) (nI K) (nI T) (nI C) uY en sp de vo na rm wm sv sW ss cv ft fa fc :=
  br_t (nI_lt (by omega) (by omega)) h
theorem xst_44e {p : Int32 → SX → Prop} {J : Int32 → pa_TX} (s i n : Nat) (hi : i = T) (hT : T ≤ 8) (h : J (nI (s + 1)) (nI S) (nI K) (nI T) (nI C) up en me ye re ac rM wM sv sp sS ss cv fa fc de fl) : wX_settle_44 p J (nI s) (n + 1) (nI i) (nI S) (nI K) (nI T) (nI C) up en me ye re ac rM wM sv sp sS ss cv fa fc de fl :=
  br_t (nI_le (by omega) (by omega)) (nm_r (nI_1 _) h)
theorem yst_44e {p : Int32 → SY → Prop} {J : Int32 → pa_TY} (s i n : Nat) (hi : i = T) (hT : T ≤ 8) (h : J (nI (s + 1)) (nI S) (nI K) (nI T) (nI C) uY en sp de vo na rm wm sv sW ss cv ft fa fc) : wY_settle_44 p J (nI s) (n + 1) (nI i) (nI S) (nI K) (nI T) (nI C) uY en sp de vo na rm wm sv sW ss cv ft fa fc :=
  br_t (nI_le (by omega) (by omega)) (nm_r (nI_1 _) h)
theorem xst_44s {p : Int32 → SX → Prop} {J : Int32 → pa_TX} {r : Int32} {U : SX} (s i n : Nat) (hi : i < T) (hT : T ≤ 8) (hA : ∀ q : Int32 → SX → Prop, q r U → wpX_timeout q (nI S, nI K, nI T, nI C, up, en, me, ye, re, ac, rM, wM, sv, sp, sS, ss, cv, fa, fc, de, fl) (nI s) (nI i)) (h : pa_cX (wX_settle_44 p J (nI s) n (nI (i + 1))) U) : wX_settle_44 p J (nI s) (n + 1) (nI i) (nI S) (nI K) (nI T) (nI C) up en me ye re ac rM wM sv sp sS ss cv fa fc de fl := by
  obtain ⟨a1, a2, a3, a4, a5, a6, a7, a8, a9, a10, a11, a12, a13, a14, a15, a16, a17, a18, a19, a20, a21⟩ := U
  exact br_f (nI_ge hi (by omega)) (hA _ (nm_r (nI_1 _) h))
theorem yst_44s {p : Int32 → SY → Prop} {J : Int32 → pa_TY} {r : Int32} {V : SY} (s i n : Nat) (hi : i < T) (hT : T ≤ 8) (hA : ∀ q : Int32 → SY → Prop, q r V → wpY_timeout q (nI S, nI K, nI T, nI C, uY, en, sp, de, vo, na, rm, wm, sv, sW, ss, cv, ft, fa, fc) (nI s) (nI i)) (h : pa_cY (wY_settle_44 p J (nI s) n (nI (i + 1))) V) : wY_settle_44 p J (nI s) (n + 1) (nI i) (nI S) (nI K) (nI T) (nI C) uY en sp de vo na rm wm sv sW ss cv ft fa fc := by
  obtain ⟨b1, b2, b3, b4, b5, b6, b7, b8, b9, b10, b11, b12, b13, b14, b15, b16, b17, b18, b19⟩ := V
  exact br_f (nI_ge hi (by omega)) (hA _ (nm_r (nI_1 _) h))
theorem xst_34e {p : Int32 → SX → Prop} {U : SX} (i n : Nat) (hi : i = S + 1) (hS : S ≤ 4) (hA : ∀ q : SX → Prop, q U → wpX_sweep q (nI S, nI K, nI T, nI C, up, en, me, ye, re, ac, rM, wM, sv, sp, sS, ss, cv, fa, fc, de, fl)) (h : ∃ m, pa_cX (wX_settle_77 p m (nI 0)) U) : wX_settle_34 p (n + 1) (nI i) (nI S) (nI K) (nI T) (nI C) up en me ye re ac rM wM sv sp sS ss cv fa fc de fl := by
  obtain ⟨a1, a2, a3, a4, a5, a6, a7, a8, a9, a10, a11, a12, a13, a14, a15, a16, a17, a18, a19, a20, a21⟩ := U
  exact br_t (nI_lt (by omega) (by omega)) (hA _ h)
theorem yst_34e {p : Int32 → SY → Prop} {V : SY} (i n : Nat) (hi : i = S + 1) (hS : S ≤ 4) (hA : ∀ q : SY → Prop, q V → wpY_sweep q (nI S, nI K, nI T, nI C, uY, en, sp, de, vo, na, rm, wm, sv, sW, ss, cv, ft, fa, fc)) (h : ∃ m, pa_cY (wY_settle_77 p m (nI 0)) V) : wY_settle_34 p (n + 1) (nI i) (nI S) (nI K) (nI T) (nI C) uY en sp de vo na rm wm sv sW ss cv ft fa fc := by
  obtain ⟨b1, b2, b3, b4, b5, b6, b7, b8, b9, b10, b11, b12, b13, b14, b15, b16, b17, b18, b19⟩ := V
  exact br_t (nI_lt (by omega) (by omega)) (hA _ h)
theorem xst_34s {p : Int32 → SX → Prop} (i n : Nat) (hi : i ≤ S) (hS : S ≤ 4) (h : ∃ m, wX_settle_44 p (wX_settle_34 p n) (nI i) m (nI 0) (nI S) (nI K) (nI T) (nI C) up en me ye re ac rM wM sv sp sS ss cv fa fc de fl) : wX_settle_34 p (n + 1) (nI i) (nI S) (nI K) (nI T) (nI C) up en me ye re ac rM wM sv sp sS ss cv fa fc de fl :=
  br_f (nI_nlt hi (by omega)) h
theorem yst_34s {p : Int32 → SY → Prop} (i n : Nat) (hi : i ≤ S) (hS : S ≤ 4) (h : ∃ m, wY_settle_44 p (wY_settle_34 p n) (nI i) m (nI 0) (nI S) (nI K) (nI T) (nI C) uY en sp de vo na rm wm sv sW ss cv ft fa fc) : wY_settle_34 p (n + 1) (nI i) (nI S) (nI K) (nI T) (nI C) uY en sp de vo na rm wm sv sW ss cv ft fa fc :=
  br_f (nI_nlt hi (by omega)) h
theorem xst_2e {p : Int32 → SX → Prop} {U : SX} (i n : Nat) (hi : i = S + 1) (hS : S ≤ 4) (hA : ∀ q : SX → Prop, q U → wpX_sweep q (nI S, nI K, nI T, nI C, up, en, me, ye, re, ac, rM, wM, sv, sp, sS, ss, cv, fa, fc, de, fl)) (h : ∃ m, pa_cX (wX_settle_34 p m (nI 0)) U) : wX_settle_2 p (nI S) (nI K) (nI T) (nI C) up en me ye re ac rM wM sv sp sS ss cv fa fc de fl (n + 1) (nI i) := by
  obtain ⟨a1, a2, a3, a4, a5, a6, a7, a8, a9, a10, a11, a12, a13, a14, a15, a16, a17, a18, a19, a20, a21⟩ := U
  exact br_t (nI_lt (by omega) (by omega)) (hA _ h)
theorem yst_2e {p : Int32 → SY → Prop} {V : SY} (i n : Nat) (hi : i = S + 1) (hS : S ≤ 4) (hA : ∀ q : SY → Prop, q V → wpY_sweep q (nI S, nI K, nI T, nI C, uY, en, sp, de, vo, na, rm, wm, sv, sW, ss, cv, ft, fa, fc)) (h : ∃ m, pa_cY (wY_settle_34 p m (nI 0)) V) : wY_settle_2 p (nI S) (nI K) (nI T) (nI C) uY en sp de vo na rm wm sv sW ss cv ft fa fc (n + 1) (nI i) := by
  obtain ⟨b1, b2, b3, b4, b5, b6, b7, b8, b9, b10, b11, b12, b13, b14, b15, b16, b17, b18, b19⟩ := V
  exact br_t (nI_lt (by omega) (by omega)) (hA _ h)
theorem xst_2d {p : Int32 → SX → Prop} (i n : Nat) (hi : i ≤ S) (hS : S ≤ 4) (hu : up i = 0) (h : p (-2) (nI S, nI K, nI T, nI C, up, en, me, ye, re, ac, rM, wM, sv, sp, sS, ss, cv, fa, fc, de, fl)) : wX_settle_2 p (nI S) (nI K) (nI T) (nI C) up en me ye re ac rM wM sv sp sS ss cv fa fc de fl (n + 1) (nI i) := by
  refine br_f (nI_nlt hi (by omega)) ?_
  rw [nI_clamp (show i < 2 ^ 31 by omega)]
  exact ⟨vp_in_nI (by omega) (by decide), br_t hu h⟩
theorem xst_2u {p : Int32 → SX → Prop} (i n : Nat) (hi : i ≤ S) (hS : S ≤ 4) (hu : ¬ up i = 0) (h : wX_settle_2 p (nI S) (nI K) (nI T) (nI C) up en me ye re ac rM wM sv sp sS ss cv fa fc de fl n (nI (i + 1))) : wX_settle_2 p (nI S) (nI K) (nI T) (nI C) up en me ye re ac rM wM sv sp sS ss cv fa fc de fl (n + 1) (nI i) := by
  refine br_f (nI_nlt hi (by omega)) ?_
  rw [nI_clamp (show i < 2 ^ 31 by omega)]
  exact ⟨vp_in_nI (by omega) (by decide), br_f hu (nm_r (nI_1 _) h)⟩
theorem yst_2d {p : Int32 → SY → Prop} (i n : Nat) (hi : i ≤ S) (hS : S ≤ 4) (hu : uY i = 0) (h : p (-2) (nI S, nI K, nI T, nI C, uY, en, sp, de, vo, na, rm, wm, sv, sW, ss, cv, ft, fa, fc)) : wY_settle_2 p (nI S) (nI K) (nI T) (nI C) uY en sp de vo na rm wm sv sW ss cv ft fa fc (n + 1) (nI i) := by
  refine br_f (nI_nlt hi (by omega)) ?_
  rw [nI_clamp (show i < 2 ^ 31 by omega)]
  exact ⟨vp_in_nI (by omega) (by decide), br_t hu h⟩
theorem yst_2u {p : Int32 → SY → Prop} (i n : Nat) (hi : i ≤ S) (hS : S ≤ 4) (hu : ¬ uY i = 0) (h : wY_settle_2 p (nI S) (nI K) (nI T) (nI C) uY en sp de vo na rm wm sv sW ss cv ft fa fc n (nI (i + 1))) : wY_settle_2 p (nI S) (nI K) (nI T) (nI C) uY en sp de vo na rm wm sv sW ss cv ft fa fc (n + 1) (nI i) := by
  refine br_f (nI_nlt hi (by omega)) ?_
  rw [nI_clamp (show i < 2 ^ 31 by omega)]
  exact ⟨vp_in_nI (by omega) (by decide), br_f hu (nm_r (nI_1 _) h)⟩
end
theorem lk_st3 {S K T C : Nat} : ∀ (d i : Nat) {u : SX} {v : SY}, pa_R S K T C u v → i + d = S + 1 → ∃ (u' : SX) (v' : SY), pa_R S K T C u' v' ∧ (∀ (p : Int32 → SX → Prop) (n : Nat), d < n → p 0 u' → pa_cX (wX_settle_77 p n (nI i)) u) ∧ (∀ (p : Int32 → SY → Prop) (n : Nat), d < n → p 0 v' → pa_cY (wY_settle_77 p n (nI i)) v) := by
  intro d
  induction d with
  | zero =>
    intro i u v I hi
    refine pa_el (P := fun u v => ∃ (u' : SX) (v' : SY), pa_R S K T C u' v' ∧ (∀ (p : Int32 → SX → Prop) (n : Nat), 0 < n → p 0 u' → pa_cX (wX_settle_77 p n (nI i)) u) ∧ (∀ (p : Int32 → SY → Prop) (n : Nat), 0 < n → p 0 v' → pa_cY (wY_settle_77 p n (nI i)) v)) ?_ I
    intro up uY en me ye re ac rM wM sv sp sS ss cv fa fc de fl vo na rm wm sW ft h
    obtain ⟨⟨_, hS⟩, ⟨_, hK⟩, ⟨_, hT⟩, ⟨_, hC⟩⟩ := h.1
    refine ⟨_, _, pa_mk4 sv ss cv de h, fun p n hn hp => ?_, fun p n hn hp => ?_⟩
    · obtain ⟨n, rfl⟩ : ∃ q, n = q + 1 := ⟨n - 1, by omega⟩
      exact xst_77e i n (by omega) hS hp
    · obtain ⟨n, rfl⟩ : ∃ q, n = q + 1 := ⟨n - 1, by omega⟩
      exact yst_77e i n (by omega) hS hp
  | succ d ih =>
    intro i u v I hi
    refine pa_el (P := fun u v => ∃ (u' : SX) (v' : SY), pa_R S K T C u' v' ∧ (∀ (p : Int32 → SX → Prop) (n : Nat), d + 1 < n → p 0 u' → pa_cX (wX_settle_77 p n (nI i)) u) ∧ (∀ (p : Int32 → SY → Prop) (n : Nat), d + 1 < n → p 0 v' → pa_cY (wY_settle_77 p n (nI i)) v)) ?_ I
    intro up uY en me ye re ac rM wM sv sp sS ss cv fa fc de fl vo na rm wm sW ft h
    obtain ⟨⟨_, hS⟩, ⟨_, hK⟩, ⟨_, hT⟩, ⟨_, hC⟩⟩ := h.1
    obtain ⟨m, hm, em⟩ := h.2.2.2.2.2.2.2.2 i (by omega)
    have hfa := h.2.2.2.2.2.2.2.1
    obtain ⟨u1, v1, I1, hX, hY⟩ := ih (i + 1) (pa_mk4 sv ss cv de (g_hd h i m)) (by omega)
    refine ⟨u1, v1, I1, fun p n hn hp => ?_, fun p n hn hp => ?_⟩
    · obtain ⟨n, rfl⟩ : ∃ q, n = q + 1 := ⟨n - 1, by omega⟩
      exact xst_77s i n m (by omega) hS hm hfa em (hX p n (by omega) hp)
    · obtain ⟨n, rfl⟩ : ∃ q, n = q + 1 := ⟨n - 1, by omega⟩
      exact yst_77s i n m (by omega) hS hm hfa em (hY p n (by omega) hp)
theorem lk_st44 {S K T C : Nat} (s : Nat) (hs : s ≤ S) : ∀ (d i : Nat) {u : SX} {v : SY}, pa_R S K T C u v → i + d = T → ∃ (u' : SX) (v' : SY), pa_R S K T C u' v' ∧ (∀ (p : Int32 → SX → Prop) (J34 : Int32 → pa_TX) (n : Nat), d < n → pa_cX (J34 (nI (s + 1))) u' → pa_cX (wX_settle_44 p J34 (nI s) n (nI i)) u) ∧ (∀ (p : Int32 → SY → Prop) (J34 : Int32 → pa_TY) (n : Nat), d < n → pa_cY (J34 (nI (s + 1))) v' → pa_cY (wY_settle_44 p J34 (nI s) n (nI i)) v) := by
  intro d
  induction d with
  | zero =>
    intro i u v I hi
    refine pa_el (P := fun u v => ∃ (u' : SX) (v' : SY), pa_R S K T C u' v' ∧ (∀ (p : Int32 → SX → Prop) (J34 : Int32 → pa_TX) (n : Nat), 0 < n → pa_cX (J34 (nI (s + 1))) u' → pa_cX (wX_settle_44 p J34 (nI s) n (nI i)) u) ∧ (∀ (p : Int32 → SY → Prop) (J34 : Int32 → pa_TY) (n : Nat), 0 < n → pa_cY (J34 (nI (s + 1))) v' → pa_cY (wY_settle_44 p J34 (nI s) n (nI i)) v)) ?_ I
    intro up uY en me ye re ac rM wM sv sp sS ss cv fa fc de fl vo na rm wm sW ft h
    obtain ⟨⟨_, hS⟩, ⟨_, hK⟩, ⟨_, hT⟩, ⟨_, hC⟩⟩ := h.1
    refine ⟨_, _, pa_mk4 sv ss cv de h, fun p J n hn hp => ?_, fun p J n hn hp => ?_⟩
    · obtain ⟨n, rfl⟩ : ∃ q, n = q + 1 := ⟨n - 1, by omega⟩
      exact xst_44e s i n (by omega) hT hp
    · obtain ⟨n, rfl⟩ : ∃ q, n = q + 1 := ⟨n - 1, by omega⟩
      exact yst_44e s i n (by omega) hT hp
  | succ d ih =>
    intro i u v I hi
    refine pa_el (P := fun u v => ∃ (u' : SX) (v' : SY), pa_R S K T C u' v' ∧ (∀ (p : Int32 → SX → Prop) (J34 : Int32 → pa_TX) (n : Nat), d + 1 < n → pa_cX (J34 (nI (s + 1))) u' → pa_cX (wX_settle_44 p J34 (nI s) n (nI i)) u) ∧ (∀ (p : Int32 → SY → Prop) (J34 : Int32 → pa_TY) (n : Nat), d + 1 < n → pa_cY (J34 (nI (s + 1))) v' → pa_cY (wY_settle_44 p J34 (nI s) n (nI i)) v)) ?_ I
    intro up uY en me ye re ac rM wM sv sp sS ss cv fa fc de fl vo na rm wm sW ft h
    obtain ⟨⟨_, hS⟩, ⟨_, hK⟩, ⟨_, hT⟩, ⟨_, hC⟩⟩ := h.1
    obtain ⟨r, u1, v1, I1, hA, hB⟩ := lk_timeout (pa_mk4 sv ss cv de h) s i hs (by omega)
    obtain ⟨u2, v2, I2, hX, hY⟩ := ih (i + 1) I1 (by omega)
    refine ⟨u2, v2, I2, fun p J n hn hp => ?_, fun p J n hn hp => ?_⟩
    · obtain ⟨n, rfl⟩ : ∃ q, n = q + 1 := ⟨n - 1, by omega⟩
      exact xst_44s s i n (by omega) hT hA (hX p J n (by omega) hp)
    · obtain ⟨n, rfl⟩ : ∃ q, n = q + 1 := ⟨n - 1, by omega⟩
      exact yst_44s s i n (by omega) hT hB (hY p J n (by omega) hp)
theorem lk_st34 {S K T C : Nat} : ∀ (d i : Nat) {u : SX} {v : SY}, pa_R S K T C u v → i + d = S + 1 → ∃ (u' : SX) (v' : SY), pa_R S K T C u' v' ∧ (∀ (p : Int32 → SX → Prop) (n : Nat), d < n → p 0 u' → pa_cX (wX_settle_34 p n (nI i)) u) ∧ (∀ (p : Int32 → SY → Prop) (n : Nat), d < n → p 0 v' → pa_cY (wY_settle_34 p n (nI i)) v) := by
  intro d
  induction d with
  | zero =>
    intro i u v I hi
    refine pa_el (P := fun u v => ∃ (u' : SX) (v' : SY), pa_R S K T C u' v' ∧ (∀ (p : Int32 → SX → Prop) (n : Nat), 0 < n → p 0 u' → pa_cX (wX_settle_34 p n (nI i)) u) ∧ (∀ (p : Int32 → SY → Prop) (n : Nat), 0 < n → p 0 v' → pa_cY (wY_settle_34 p n (nI i)) v)) ?_ I
    intro up uY en me ye re ac rM wM sv sp sS ss cv fa fc de fl vo na rm wm sW ft h
    obtain ⟨⟨_, hS⟩, ⟨_, hK⟩, ⟨_, hT⟩, ⟨_, hC⟩⟩ := h.1
    obtain ⟨u1, v1, I1, hA, hB⟩ := lk_sweep (pa_mk4 sv ss cv de h)
    obtain ⟨u2, v2, I2, hX, hY⟩ := lk_st3 (S + 1) 0 I1 (by omega)
    refine ⟨u2, v2, I2, fun p n hn hp => ?_, fun p n hn hp => ?_⟩
    · obtain ⟨n, rfl⟩ : ∃ q, n = q + 1 := ⟨n - 1, by omega⟩
      exact xst_34e i n (by omega) hS hA ⟨S + 2, hX p (S + 2) (by omega) hp⟩
    · obtain ⟨n, rfl⟩ : ∃ q, n = q + 1 := ⟨n - 1, by omega⟩
      exact yst_34e i n (by omega) hS hB ⟨S + 2, hY p (S + 2) (by omega) hp⟩
  | succ d ih =>
    intro i u v I hi
    refine pa_el (P := fun u v => ∃ (u' : SX) (v' : SY), pa_R S K T C u' v' ∧ (∀ (p : Int32 → SX → Prop) (n : Nat), d + 1 < n → p 0 u' → pa_cX (wX_settle_34 p n (nI i)) u) ∧ (∀ (p : Int32 → SY → Prop) (n : Nat), d + 1 < n → p 0 v' → pa_cY (wY_settle_34 p n (nI i)) v)) ?_ I
    intro up uY en me ye re ac rM wM sv sp sS ss cv fa fc de fl vo na rm wm sW ft h
    obtain ⟨⟨_, hS⟩, ⟨_, hK⟩, ⟨_, hT⟩, ⟨_, hC⟩⟩ := h.1
    obtain ⟨u1, v1, I1, hX1, hY1⟩ := lk_st44 i (by omega) T 0 (pa_mk4 sv ss cv de h) (by omega)
    obtain ⟨u2, v2, I2, hX, hY⟩ := ih (i + 1) I1 (by omega)
    refine ⟨u2, v2, I2, fun p n hn hp => ?_, fun p n hn hp => ?_⟩
    · obtain ⟨n, rfl⟩ : ∃ q, n = q + 1 := ⟨n - 1, by omega⟩
      exact xst_34s i n (by omega) hS ⟨T + 1, hX1 p _ (T + 1) (by omega) (hX p n (by omega) hp)⟩
    · obtain ⟨n, rfl⟩ : ∃ q, n = q + 1 := ⟨n - 1, by omega⟩
      exact yst_34s i n (by omega) hS ⟨T + 1, hY1 p _ (T + 1) (by omega) (hY p n (by omega) hp)⟩
theorem lk_settle {S K T C : Nat} {u : SX} {v : SY} (I : pa_R S K T C u v) : pa_LR S K T C (fun p => wpX_settle p u) (fun p => wpY_settle p v) := by
  refine pa_el (P := fun u v => pa_LR S K T C (fun p => wpX_settle p u) (fun p => wpY_settle p v)) ?_ I
  intro up uY en me ye re ac rM wM sv sp sS ss cv fa fc de fl vo na rm wm sW ft h
  obtain ⟨⟨_, hS⟩, ⟨_, hK⟩, ⟨_, hT⟩, ⟨_, hC⟩⟩ := h.1
  have key : ∀ d i : Nat, i + d = S + 1 → ∃ (r : Int32) (u' : SX) (v' : SY), pa_R S K T C u' v' ∧ (∀ (p : Int32 → SX → Prop) (n : Nat), d < n → p r u' → wX_settle_2 p (nI S) (nI K) (nI T) (nI C) up en me ye re ac rM wM sv sp sS ss cv fa fc de fl n (nI i)) ∧ (∀ (p : Int32 → SY → Prop) (n : Nat), d < n → p r v' → wY_settle_2 p (nI S) (nI K) (nI T) (nI C) uY en sp de vo na rm wm sv sW ss cv ft fa fc n (nI i)) := by
    intro d
    induction d with
    | zero =>
      intro i hi
      obtain ⟨u1, v1, I1, hA, hB⟩ := lk_sweep (pa_mk4 sv ss cv de h)
      obtain ⟨u2, v2, I2, hX, hY⟩ := lk_st34 (S + 1) 0 I1 (by omega)
      refine ⟨0, u2, v2, I2, fun p n hn hp => ?_, fun p n hn hp => ?_⟩
      · obtain ⟨n, rfl⟩ : ∃ q, n = q + 1 := ⟨n - 1, by omega⟩
        exact xst_2e i n (by omega) hS hA ⟨S + 2, hX p (S + 2) (by omega) hp⟩
      · obtain ⟨n, rfl⟩ : ∃ q, n = q + 1 := ⟨n - 1, by omega⟩
        exact yst_2e i n (by omega) hS hB ⟨S + 2, hY p (S + 2) (by omega) hp⟩
    | succ d ih =>
      intro i hi
      have eu := h.2.1.1 i (by omega)
      by_cases hu : up i = 0
      · refine ⟨-2, _, _, pa_mk4 sv ss cv de h, fun p n hn hp => ?_, fun p n hn hp => ?_⟩
        · obtain ⟨n, rfl⟩ : ∃ q, n = q + 1 := ⟨n - 1, by omega⟩
          exact xst_2d i n (by omega) hS hu hp
        · obtain ⟨n, rfl⟩ : ∃ q, n = q + 1 := ⟨n - 1, by omega⟩
          exact yst_2d i n (by omega) hS (eu.trans hu) hp
      · obtain ⟨r, u2, v2, I2, hX, hY⟩ := ih (i + 1) (by omega)
        refine ⟨r, u2, v2, I2, fun p n hn hp => ?_, fun p n hn hp => ?_⟩
        · obtain ⟨n, rfl⟩ : ∃ q, n = q + 1 := ⟨n - 1, by omega⟩
          exact xst_2u i n (by omega) hS hu (hX p n (by omega) hp)
        · obtain ⟨n, rfl⟩ : ∃ q, n = q + 1 := ⟨n - 1, by omega⟩
          exact yst_2u i n (by omega) hS (by rw [eu]; exact hu) (hY p n (by omega) hp)
  obtain ⟨r, u2, v2, I2, hX, hY⟩ := key (S + 1) 0 (by omega)
  exact ⟨r, u2, v2, I2, fun p hp => Exists.intro (S + 2) (hX p (S + 2) (by omega) hp), fun p hp => Exists.intro (S + 2) (hY p (S + 2) (by omega) hp)⟩
end
section
/-! free, begin -/
def pa_dz (a : Nat → Int32) (t : Nat) : Nat → (Nat → Int32)
  | 0 => a
  | n + 1 => upd (pa_dz a t n) (n * 8 + t) 0
section
variable {S K T C : Nat} {up uY en me ye re ac rM wM sv sp sS ss cv fa fc de fl vo na rm wm sW ft : Nat → Int32}
theorem lk_fr3 (h : (pa_G S K T C up uY en me ye re ac rM wM sp sS fa fc fl vo na rm wm sW ft)) (k t : Nat) (hk : k < 8) (ht : t < 8) : ∀ d i : Nat, i + d = S →
    (∀ n, d < n → (∀ (post J : Int32 → Prop), J (nI (k + 1)) → wX_free_74 post J (nI t) (nI k) (nI S) (nI K) (nI T) (nI C) up en me ye re ac rM wM sv sp sS ss cv fa fc de fl n (nI (i + 1))) ∧ (∀ (post J : Int32 → Prop), J (nI (k + 1)) → wY_free_75 post J (nI t) (nI k) (nI S) (nI K) (nI T) (nI C) uY en sp de vo na rm wm sv sW ss cv ft fa fc n (nI (i + 1)))) ∨
    (∀ n, d < n → (∀ (post J : Int32 → Prop), post 0 → wX_free_74 post J (nI t) (nI k) (nI S) (nI K) (nI T) (nI C) up en me ye re ac rM wM sv sp sS ss cv fa fc de fl n (nI (i + 1))) ∧ (∀ (post J : Int32 → Prop), post 0 → wY_free_75 post J (nI t) (nI k) (nI S) (nI K) (nI T) (nI C) uY en sp de vo na rm wm sv sW ss cv ft fa fc n (nI (i + 1)))) := by
  obtain ⟨⟨_, hS⟩, ⟨_, hK⟩, ⟨_, hT⟩, ⟨_, hC⟩⟩ := h.1
  intro d
  induction d with
  | zero =>
    intro i hi
    refine Or.inl fun n hn => ?_
    obtain ⟨n, rfl⟩ : ∃ q, n = q + 1 := ⟨n - 1, by omega⟩
    exact ⟨fun post J hp => br_t (nI_lt (by omega) (by omega)) (nm_r (nI_1 _) hp), fun post J hp => br_t (nI_lt (by omega) (by omega)) (nm_r (nI_1 _) hp)⟩
  | succ d ih =>
    intro i hi
    obtain ⟨e1, c, hc, e2⟩ := h.2.2.2.2.2.2.1 k (i + 1) t hk (by omega) ht
    have i3 : vp_in (nI (k * 40 + (i + 1) * 8 + t)) 320 := vp_in_nI (by omega) (by decide)
    have i3' : vp_in (nI ((k * 8 + t) * 5 + (i + 1))) 320 := vp_in_nI (by omega) (by decide)
    have c1 : (nI (k * 40 + (i + 1) * 8 + t)).toNatClampNeg = k * 40 + (i + 1) * 8 + t := nI_clamp (by omega)
    have c2 : (nI ((k * 8 + t) * 5 + (i + 1))).toNatClampNeg = (k * 8 + t) * 5 + (i + 1) := nI_clamp (by omega)
    by_cases hz : fl (k * 40 + (i + 1) * 8 + t) ≤ 0
    · have hz' : ft ((k * 8 + t) * 5 + (i + 1)) ≤ 0 := by rw [e1]; exact hz
      have stepX : ∀ (post J : Int32 → Prop) (n : Nat), wX_free_74 post J (nI t) (nI k) (nI S) (nI K) (nI T) (nI C) up en me ye re ac rM wM sv sp sS ss cv fa fc de fl n (nI (i + 1 + 1)) → wX_free_74 post J (nI t) (nI k) (nI S) (nI K) (nI T) (nI C) up en me ye re ac rM wM sv sp sS ss cv fa fc de fl (n + 1) (nI (i + 1)) := fun post J n hp => by
        refine br_f (nI_nlt (by omega) (by omega)) ?_
        rw [pa_fx, c1]
        exact ⟨i3, br_t hz (nm_r (nI_1 _) hp)⟩
      have stepY : ∀ (post J : Int32 → Prop) (n : Nat), wY_free_75 post J (nI t) (nI k) (nI S) (nI K) (nI T) (nI C) uY en sp de vo na rm wm sv sW ss cv ft fa fc n (nI (i + 1 + 1)) → wY_free_75 post J (nI t) (nI k) (nI S) (nI K) (nI T) (nI C) uY en sp de vo na rm wm sv sW ss cv ft fa fc (n + 1) (nI (i + 1)) := fun post J n hp => by
        refine br_f (nI_nlt (by omega) (by omega)) (yw_wire k t (i + 1) ?_)
        rw [c2]
        exact ⟨i3', br_t hz' (nm_r (nI_1 _) hp)⟩
      rcases ih (i + 1) (by omega) with z | z
      · refine Or.inl fun n hn => ?_
        obtain ⟨n, rfl⟩ : ∃ q, n = q + 1 := ⟨n - 1, by omega⟩
        obtain ⟨z1, z2⟩ := z n (by omega)
        exact ⟨fun post J hp => stepX post J n (z1 post J hp), fun post J hp => stepY post J n (z2 post J hp)⟩
      · refine Or.inr fun n hn => ?_
        obtain ⟨n, rfl⟩ : ∃ q, n = q + 1 := ⟨n - 1, by omega⟩
        obtain ⟨z1, z2⟩ := z n (by omega)
        exact ⟨fun post J hp => stepX post J n (z1 post J hp), fun post J hp => stepY post J n (z2 post J hp)⟩
    · have hz' : ¬ ft ((k * 8 + t) * 5 + (i + 1)) ≤ 0 := by rw [e1]; exact hz
      refine Or.inr fun n hn => ?_
      obtain ⟨n, rfl⟩ : ∃ q, n = q + 1 := ⟨n - 1, by omega⟩
      refine ⟨fun post J hp => ?_, fun post J hp => ?_⟩
      · refine br_f (nI_nlt (by omega) (by omega)) ?_
        rw [pa_fx, c1]
        exact ⟨i3, br_f hz hp⟩
      · refine br_f (nI_nlt (by omega) (by omega)) (yw_wire k t (i + 1) ?_)
        rw [c2]
        exact ⟨i3', br_f hz' hp⟩
theorem lk_fr2 (h : (pa_G S K T C up uY en me ye re ac rM wM sp sS fa fc fl vo na rm wm sW ft)) (t : Nat) (ht : t < 8) : ∀ d k : Nat, k + d = 8 →
    ∃ r : Int32, (r = 0 ∨ r = 1) ∧ ∀ n, d < n → (∀ post : Int32 → Prop, post r → wX_free_66 post (nI t) (nI S) (nI K) (nI T) (nI C) up en me ye re ac rM wM sv sp sS ss cv fa fc de fl n (nI k)) ∧ (∀ post : Int32 → Prop, post r → wY_free_67 post (nI t) (nI S) (nI K) (nI T) (nI C) uY en sp de vo na rm wm sv sW ss cv ft fa fc n (nI k)) := by
  intro d
  induction d with
  | zero =>
    intro k hk
    have e : k = 8 := by omega
    subst e
    refine ⟨1, Or.inr rfl, fun n hn => ?_⟩
    obtain ⟨n, rfl⟩ : ∃ q, n = q + 1 := ⟨n - 1, by omega⟩
    exact ⟨fun post hp => br_t (by decide) hp, fun post hp => br_t (by decide) hp⟩
  | succ d ih =>
    intro k hk
    rcases lk_fr3 (sv := sv) (ss := ss) (cv := cv) (de := de) h k t (by omega) ht S 0 (by omega) with z | z
    · obtain ⟨r, hr, hh⟩ := ih (k + 1) (by omega)
      refine ⟨r, hr, fun n hn => ?_⟩
      obtain ⟨n, rfl⟩ : ∃ q, n = q + 1 := ⟨n - 1, by omega⟩
      obtain ⟨z1, z2⟩ := z (S + 1) (by omega)
      obtain ⟨w1, w2⟩ := hh n (by omega)
      exact ⟨fun post hp => br_f (nI_ge (b := 8) (by omega) (by decide)) ⟨S + 1, z1 post _ (w1 post hp)⟩, fun post hp => br_f (nI_ge (b := 8) (by omega) (by decide)) ⟨S + 1, z2 post _ (w2 post hp)⟩⟩
    · refine ⟨0, Or.inl rfl, fun n hn => ?_⟩
      obtain ⟨n, rfl⟩ : ∃ q, n = q + 1 := ⟨n - 1, by omega⟩
      obtain ⟨z1, z2⟩ := z (S + 1) (by omega)
      exact ⟨fun post hp => br_f (nI_ge (b := 8) (by omega) (by decide)) ⟨S + 1, z1 post _ hp⟩, fun post hp => br_f (nI_ge (b := 8) (by omega) (by decide)) ⟨S + 1, z2 post _ hp⟩⟩
theorem lk_fr1 (h : (pa_G S K T C up uY en me ye re ac rM wM sp sS fa fc fl vo na rm wm sW ft)) (t : Nat) (ht : t < 8) : ∀ d i : Nat, i + d = S + 1 →
    ∃ r : Int32, (r = 0 ∨ r = 1) ∧ ∀ n, d < n → (∀ post : Int32 → Prop, post r → wX_free_12 post (nI t) (nI S) (nI K) (nI T) (nI C) up en me ye re ac rM wM sv sp sS ss cv fa fc de fl n (nI i)) ∧ (∀ post : Int32 → Prop, post r → wY_free_12 post (nI t) (nI S) (nI K) (nI T) (nI C) uY en sp de vo na rm wm sv sW ss cv ft fa fc n (nI i)) := by
  obtain ⟨⟨_, hS⟩, ⟨_, hK⟩, ⟨_, hT⟩, ⟨_, hC⟩⟩ := h.1
  intro d
  induction d with
  | zero =>
    intro i hi
    obtain ⟨r, hr, hh⟩ := lk_fr2 (sv := sv) (ss := ss) (cv := cv) (de := de) h t ht 8 0 (by omega)
    obtain ⟨w1, w2⟩ := hh 9 (by omega)
    refine ⟨r, hr, fun n hn => ?_⟩
    obtain ⟨n, rfl⟩ : ∃ q, n = q + 1 := ⟨n - 1, by omega⟩
    exact ⟨fun post hp => br_t (nI_lt (by omega) (by omega)) ⟨9, w1 post hp⟩, fun post hp => br_t (nI_lt (by omega) (by omega)) ⟨9, w2 post hp⟩⟩
  | succ d ih =>
    intro i hi
    have i40 : vp_in (nI (i * 8 + t)) 40 := vp_in_nI (by omega) (by decide)
    have i5 : vp_in (nI i) 5 := vp_in_nI (by omega) (by decide)
    have c1 : (nI (i * 8 + t)).toNatClampNeg = i * 8 + t := nI_clamp (by omega)
    have c2 : (nI i).toNatClampNeg = i := nI_clamp (by omega)
    have hlt : ¬ nI S < nI i := nI_nlt (by omega) (by omega)
    have eu := h.2.1.1 i (by omega)
    obtain ⟨r, hr, hh⟩ := ih (i + 1) (by omega)
    by_cases hp0 : sp (i * 8 + t) = 0
    · by_cases hu : up i = 0
      · refine ⟨r, hr, fun n hn => ?_⟩
        obtain ⟨n, rfl⟩ : ∃ q, n = q + 1 := ⟨n - 1, by omega⟩
        obtain ⟨w1, w2⟩ := hh n (by omega)
        refine ⟨fun post hp => ?_, fun post hp => ?_⟩
        · refine br_f hlt (nm_r (pa_at i t) ?_)
          rw [c1, c2]
          exact ⟨i40, br_t hp0 ⟨i5, br_t hu (nm_r (nI_1 _) (w1 post hp))⟩⟩
        · refine br_f hlt (yw_at i t ?_)
          rw [c1, c2]
          exact ⟨i40, br_t hp0 ⟨i5, br_t (eu.trans hu) (nm_r (nI_1 _) (w2 post hp))⟩⟩
      · have hu' : ¬ uY i = 0 := by rw [eu]; exact hu
        by_cases he : en (i * 8 + t) = 0
        · refine ⟨r, hr, fun n hn => ?_⟩
          obtain ⟨n, rfl⟩ : ∃ q, n = q + 1 := ⟨n - 1, by omega⟩
          obtain ⟨w1, w2⟩ := hh n (by omega)
          refine ⟨fun post hp => ?_, fun post hp => ?_⟩
          · refine br_f hlt (nm_r (pa_at i t) ?_)
            rw [c1, c2]
            exact ⟨i40, br_t hp0 ⟨i5, br_f hu ⟨i40, br_t he (nm_r (nI_1 _) (w1 post hp))⟩⟩⟩
          · refine br_f hlt (yw_at i t ?_)
            rw [c1, c2]
            refine ⟨i40, br_t hp0 ⟨i5, br_f hu' (yw_at i t ?_)⟩⟩
            rw [c1]
            exact ⟨i40, br_t he (nm_r (nI_1 _) (w2 post hp))⟩
        · refine ⟨0, Or.inl rfl, fun n hn => ?_⟩
          obtain ⟨n, rfl⟩ : ∃ q, n = q + 1 := ⟨n - 1, by omega⟩
          refine ⟨fun post hp => ?_, fun post hp => ?_⟩
          · refine br_f hlt (nm_r (pa_at i t) ?_)
            rw [c1, c2]
            exact ⟨i40, br_t hp0 ⟨i5, br_f hu ⟨i40, br_f he hp⟩⟩⟩
          · refine br_f hlt (yw_at i t ?_)
            rw [c1, c2]
            refine ⟨i40, br_t hp0 ⟨i5, br_f hu' (yw_at i t ?_)⟩⟩
            rw [c1]
            exact ⟨i40, br_f he hp⟩
    · refine ⟨0, Or.inl rfl, fun n hn => ?_⟩
      obtain ⟨n, rfl⟩ : ∃ q, n = q + 1 := ⟨n - 1, by omega⟩
      refine ⟨fun post hp => ?_, fun post hp => ?_⟩
      · refine br_f hlt (nm_r (pa_at i t) ?_)
        rw [c1]
        exact ⟨i40, br_f hp0 hp⟩
      · refine br_f hlt (yw_at i t ?_)
        rw [c1]
        exact ⟨i40, br_f hp0 hp⟩
theorem lk_free (h : (pa_G S K T C up uY en me ye re ac rM wM sp sS fa fc fl vo na rm wm sW ft)) (t : Nat) (ht : t < T) : ∃ r : Int32, (r = 0 ∨ r = 1) ∧ (∀ post : Int32 → Prop, post r → wpX_free post (nI S, nI K, nI T, nI C, up, en, me, ye, re, ac, rM, wM, sv, sp, sS, ss, cv, fa, fc, de, fl) (nI t)) ∧ (∀ post : Int32 → Prop, post r → wpY_free post (nI S, nI K, nI T, nI C, uY, en, sp, de, vo, na, rm, wm, sv, sW, ss, cv, ft, fa, fc) (nI t)) := by
  obtain ⟨⟨_, hS⟩, ⟨_, hK⟩, ⟨_, hT⟩, ⟨_, hC⟩⟩ := h.1
  obtain ⟨r, hr, hh⟩ := lk_fr1 (sv := sv) (ss := ss) (cv := cv) (de := de) h t (by omega) (S + 1) 0 (by omega)
  obtain ⟨w1, w2⟩ := hh (S + 2) (by omega)
  refine ⟨r, hr, fun post hp => ?_, fun post hp => ?_⟩
  · unfold wpX_free
    exact xw_isTx t ht hT (br_f (by decide) ⟨S + 2, w1 post hp⟩)
  · unfold wpY_free
    exact yw_badT t ht hT (br_t rfl ⟨S + 2, w2 post hp⟩)
theorem lk_least (h : (pa_G S K T C up uY en me ye re ac rM wM sp sS fa fc fl vo na rm wm sW ft)) : ∀ d t : Nat, t + d = T →
    (∃ t', t' < T ∧ ∀ n, d < n → (∀ post : Int32 → Prop, post (nI t') → wX_leastFree_2 post (nI S) (nI K) (nI T) (nI C) up en me ye re ac rM wM sv sp sS ss cv fa fc de fl n (nI t)) ∧ (∀ post : Int32 → SY → Prop, (∃ q, wY_begin_35 post (nI t') (nI S) (nI K) (nI T) (nI C) q (nI 0) uY en sp de vo na rm wm sv sW ss cv ft fa fc) → wY_begin_14 post (nI S) (nI K) (nI T) (nI C) uY en sp de vo na rm wm sv sW ss cv ft fa fc n (nI t))) ∨
    (∀ n, d < n → (∀ post : Int32 → Prop, post (-1) → wX_leastFree_2 post (nI S) (nI K) (nI T) (nI C) up en me ye re ac rM wM sv sp sS ss cv fa fc de fl n (nI t)) ∧ (∀ post : Int32 → SY → Prop, post (-6) (nI S, nI K, nI T, nI C, uY, en, sp, de, vo, na, rm, wm, sv, sW, ss, cv, ft, fa, fc) → wY_begin_14 post (nI S) (nI K) (nI T) (nI C) uY en sp de vo na rm wm sv sW ss cv ft fa fc n (nI t))) := by
  obtain ⟨⟨_, hS⟩, ⟨_, hK⟩, ⟨_, hT⟩, ⟨_, hC⟩⟩ := h.1
  intro d
  induction d with
  | zero =>
    intro t ht
    refine Or.inr fun n hn => ?_
    obtain ⟨n, rfl⟩ : ∃ q, n = q + 1 := ⟨n - 1, by omega⟩
    exact ⟨fun post hp => br_t (nI_le (by omega) (by omega)) hp, fun post hp => br_t (nI_le (by omega) (by omega)) hp⟩
  | succ d ih =>
    intro t ht
    have htT : t < T := by omega
    obtain ⟨r, hr, f1, f2⟩ := lk_free (sv := sv) (ss := ss) (cv := cv) (de := de) h t htT
    rcases hr with hr | hr
    · subst hr
      rcases ih (t + 1) (by omega) with ⟨t', ht', z⟩ | z
      · refine Or.inl ⟨t', ht', fun n hn => ?_⟩
        obtain ⟨n, rfl⟩ : ∃ q, n = q + 1 := ⟨n - 1, by omega⟩
        obtain ⟨z1, z2⟩ := z n (by omega)
        exact ⟨fun post hp => br_f (nI_ge htT (by omega)) (f1 _ (br_t rfl (nm_r (nI_1 _) (z1 post hp)))), fun post hp => br_f (nI_ge htT (by omega)) (f2 _ (br_t rfl (nm_r (nI_1 _) (z2 post hp))))⟩
      · refine Or.inr fun n hn => ?_
        obtain ⟨n, rfl⟩ : ∃ q, n = q + 1 := ⟨n - 1, by omega⟩
        obtain ⟨z1, z2⟩ := z n (by omega)
        exact ⟨fun post hp => br_f (nI_ge htT (by omega)) (f1 _ (br_t rfl (nm_r (nI_1 _) (z1 post hp)))), fun post hp => br_f (nI_ge htT (by omega)) (f2 _ (br_t rfl (nm_r (nI_1 _) (z2 post hp))))⟩
    · subst hr
      refine Or.inl ⟨t, htT, fun n hn => ?_⟩
      obtain ⟨n, rfl⟩ : ∃ q, n = q + 1 := ⟨n - 1, by omega⟩
      exact ⟨fun post hp => br_f (nI_ge htT (by omega)) (f1 _ (br_f (by decide) hp)), fun post hp => br_f (nI_ge htT (by omega)) (f2 _ (br_f (by decide) hp))⟩
theorem xb_26 {post : Int32 → SX → Prop} (t : Nat) (ht : t < 8) (hS : S ≤ 4)
    (h : post (nI t) (nI S, nI K, nI T, nI C, up, upd (upd en t 0) t 1, upd me t 0, upd ye t 0, upd re t 0, upd ac t 0, upd rM t 0, upd wM t 0, sv, sp, sS, ss, cv, fa, fc, pa_dz de t (S + 1), fl)) :
    ∀ d i n : Nat, i + d = S + 1 → d < n → wX_begin_26 post (nI t) (nI S) (nI K) (nI T) (nI C) n (nI i) up en me ye re ac rM wM sv sp sS ss cv fa fc (pa_dz de t i) fl := by
  intro d
  induction d with
  | zero =>
    intro i n hi hn
    obtain ⟨n, rfl⟩ : ∃ q, n = q + 1 := ⟨n - 1, by omega⟩
    have e : i = S + 1 := by omega
    subst e
    refine br_t (nI_lt (by omega) (by omega)) (xw_clear0 t ht ?_)
    rw [nI_clamp (show t < 2 ^ 31 by omega)]
    exact ⟨vp_in_nI (by omega) (by decide), nm_e h⟩
  | succ d ih =>
    intro i n hi hn
    obtain ⟨n, rfl⟩ : ∃ q, n = q + 1 := ⟨n - 1, by omega⟩
    have key := ih (i + 1) n (by omega) (by omega)
    refine br_f (nI_nlt (by omega) (by omega)) ?_
    rw [pa_at, nI_clamp (show i * 8 + t < 2 ^ 31 by omega)]
    exact ⟨vp_in_nI (by omega) (by decide), nm_e (nm_r (nI_1 _) key)⟩
theorem yb_35 {post : Int32 → SY → Prop} (t : Nat) (ht : t < 8) (hS : S ≤ 4) (hK : K ≤ 8)
    (h : post (nI t) (nI S, nI K, nI T, nI C, uY, upd (upd en t 0) t 1, sp, pa_dz de t (S + 1), pa_vz vo t S, na, pa_zr rm (t * 8) K, pa_zr wm (t * 8) K, sv, sW, ss, cv, ft, fa, fc)) :
    ∀ d i n : Nat, i + d = S + 1 → d < n → wY_begin_35 post (nI t) (nI S) (nI K) (nI T) (nI C) n (nI i) uY en sp (pa_dz de t i) vo na rm wm sv sW ss cv ft fa fc := by
  intro d
  induction d with
  | zero =>
    intro i n hi hn
    obtain ⟨n, rfl⟩ : ∃ q, n = q + 1 := ⟨n - 1, by omega⟩
    have e : i = S + 1 := by omega
    subst e
    refine br_t (nI_lt (by omega) (by omega)) (yw_drop0 t hS ht hK (yw_at0 t ?_))
    rw [nI_clamp (show t < 2 ^ 31 by omega)]
    exact ⟨vp_in_nI (by omega) (by decide), nm_e h⟩
  | succ d ih =>
    intro i n hi hn
    obtain ⟨n, rfl⟩ : ∃ q, n = q + 1 := ⟨n - 1, by omega⟩
    have key := ih (i + 1) n (by omega) (by omega)
    refine br_f (nI_nlt (by omega) (by omega)) (yw_at i t ?_)
    rw [nI_clamp (show i * 8 + t < 2 ^ 31 by omega)]
    exact ⟨vp_in_nI (by omega) (by decide), nm_e (nm_r (nI_1 _) key)⟩
theorem g_act (h : (pa_G S K T C up uY en me ye re ac rM wM sp sS fa fc fl vo na rm wm sW ft)) (t : Nat) (ht : t < 8) (he : en t = 0) (hm : me t = 0) (hy : ye t = 0) (hr : re t = 0) (ha : ac t = 0) (hu : ¬ up 0 = 0) : (pa_G S K T C up uY (upd en t 1) me ye re ac rM wM sp sS fa fc fl vo na rm wm sW ft) := by
  obtain ⟨sz, gu, ge, gv, gm, gs, gf, gl⟩ := h
  have v := gv t ht
  rw [he, hm, hy, hr, ha] at v
  refine ⟨sz, gu_upd0 gu sz.2.2.1.2 t ht (Or.inr hu), ge_upd ge _ (fun z => absurd z (by omega)), gv_upd gv t (fun t' ht' hne => ⟨pk_un hne, rfl, rfl, rfl, rfl, fun s' g1 g2 => rfl⟩) ?_, gm_en gm t (by omega) (by decide), gs, gf, gl⟩
  rw [pk_us, hm, hy, hr, ha]
  exact v1_begin v
end
theorem lk_begin {S K T C : Nat} {u : SX} {v : SY} (I : pa_R S K T C u v) : pa_LR S K T C (fun p => wpX_begin p u) (fun p => wpY_begin p v) := by
  refine pa_el (P := fun u v => pa_LR S K T C (fun p => wpX_begin p u) (fun p => wpY_begin p v)) ?_ I
  intro up uY en me ye re ac rM wM sv sp sS ss cv fa fc de fl vo na rm wm sW ft h
  obtain ⟨⟨_, hS⟩, ⟨_, hK⟩, ⟨_, hT⟩, ⟨_, hC⟩⟩ := h.1
  have eu := h.2.1.1 0 (by omega)
  by_cases hu : up 0 = 0
  · exact ⟨-2, _, _, pa_mk4 sv ss cv de h, fun p hp => br_t hu hp, fun p hp => br_t (eu.trans hu) hp⟩
  · have hu' : ¬ uY 0 = 0 := by rw [eu]; exact hu
    rcases lk_least (sv := sv) (ss := ss) (cv := cv) (de := de) h T 0 (by omega) with ⟨t, ht, z⟩ | z
    · obtain ⟨z1, z2⟩ := z (T + 1) (by omega)
      have ht8 : t < 8 := by omega
      have G1 := g_act (g_clear0 (vo' := vo) h t ht8 (fun _ _ _ _ => rfl)) t ht8 pk_us pk_us pk_us pk_us pk_us hu
      exact ⟨nI t, _, _, pa_mk4 sv ss cv (pa_dz de t (S + 1)) G1,
        fun p hp => br_f hu (Exists.intro (T + 1) (z1 _ (br_t (nI_pos' (by omega)) ⟨S + 2, xb_26 t ht8 hS hp (S + 1) 0 (S + 2) (by omega) (by omega)⟩))),
        fun p hp => br_f hu' ⟨T + 1, z2 _ ⟨S + 2, yb_35 t ht8 hS hK hp (S + 1) 0 (S + 2) (by omega) (by omega)⟩⟩⟩
    · obtain ⟨z1, z2⟩ := z (T + 1) (by omega)
      exact ⟨-6, _, _, pa_mk4 sv ss cv de h, fun p hp => br_f hu (Exists.intro (T + 1) (z1 _ (br_f (by decide) hp))), fun p hp => br_f hu' ⟨T + 1, z2 _ hp⟩⟩
end
section
/-! read, write -/
def pa_ms (w : Bool) (m r : Int32) : Int32 := if w = true then m ||| r else m
section
variable {S K T C : Nat} {up uY en me ye re ac rM wM sv sp sS ss cv fa fc de fl vo na rm wm sW ft en1 me1 vo1 rM1 wM1 rm1 wm1 : Nat → Int32}
/-! the component's search for marks -/
theorem xm_next {post : Int32 → Prop} (w : Bool) (t s k i n : Nat) (hk : k < 8) (hs : s < 5) (hi : i < T) (hT : T ≤ 8) (ht : t < 8) (hn : i = t ∨ en (s * 8 + i) = 0 ∨ bt (pa_ms w (wM (s * 8 + i)) (rM (s * 8 + i))) k = false)
    (h : wX_markedByOther_8 post (nI t) (nI s) (pa_b w) ((1 : Int32) <<< (nI k &&& 31)) (nI S) (nI K) (nI T) (nI C) up en me ye re ac rM wM sv sp sS ss cv fa fc de fl n (nI (i + 1))) : wX_markedByOther_8 post (nI t) (nI s) (pa_b w) ((1 : Int32) <<< (nI k &&& 31)) (nI S) (nI K) (nI T) (nI C) up en me ye re ac rM wM sv sp sS ss cv fa fc de fl (n + 1) (nI i) := by
  have i40 : vp_in (nI (s * 8 + i)) 40 := vp_in_nI (by omega) (by decide)
  refine br_f (nI_ge hi (by omega)) (nm_r (pa_at s i) ?_)
  rw [nI_clamp (show s * 8 + i < 2 ^ 31 by omega)]
  by_cases e : i = t
  · exact br_t (congrArg nI e) (nm_r (nI_1 _) h)
  refine br_f (pa_ne e (by omega) (by omega)) ⟨i40, ?_⟩
  by_cases e0 : en (s * 8 + i) = 0
  · exact br_t e0 (nm_r (nI_1 _) h)
  have hb := (hn.resolve_left e).resolve_left e0
  refine br_f e0 ⟨i40, ?_⟩
  cases w with
  | false =>
    refine nm_e (br_t rfl ?_)
    exact br_t ((pa_and0 _ (by omega)).mpr hb) (nm_r (nI_1 _) h)
  | true =>
    refine nm_e (br_f (by decide) ⟨i40, nm_e ?_⟩)
    exact br_t ((pa_and0 _ (by omega)).mpr hb) (nm_r (nI_1 _) h)
theorem xm_hit {post : Int32 → Prop} (w : Bool) (t s k i n : Nat) (hk : k < 8) (hs : s < 5) (hi : i < T) (hT : T ≤ 8) (ht : t < 8) (e : i ≠ t) (e0 : ¬ en (s * 8 + i) = 0) (hb : bt (pa_ms w (wM (s * 8 + i)) (rM (s * 8 + i))) k = true)
    (h : post 1) : wX_markedByOther_8 post (nI t) (nI s) (pa_b w) ((1 : Int32) <<< (nI k &&& 31)) (nI S) (nI K) (nI T) (nI C) up en me ye re ac rM wM sv sp sS ss cv fa fc de fl (n + 1) (nI i) := by
  have i40 : vp_in (nI (s * 8 + i)) 40 := vp_in_nI (by omega) (by decide)
  refine br_f (nI_ge hi (by omega)) (nm_r (pa_at s i) ?_)
  rw [nI_clamp (show s * 8 + i < 2 ^ 31 by omega)]
  refine br_f (pa_ne e (by omega) (by omega)) ⟨i40, br_f e0 ⟨i40, ?_⟩⟩
  cases w with
  | false =>
    refine nm_e (br_t rfl ?_)
    exact br_f ((pa_and1 _ (by omega)).mpr hb) h
  | true =>
    refine nm_e (br_f (by decide) ⟨i40, nm_e ?_⟩)
    exact br_f ((pa_and1 _ (by omega)).mpr hb) h
theorem ym_next {post : Int32 → SY → Prop} (w : Bool) (t s k i n : Nat) (hk : k < 8) (hs : s < 5) (hi : i < T) (hT : T ≤ 8) (ht : t < 8) (hn : i = t ∨ (wm ((s * 8 + i) * 8 + k) = 0 ∧ (w = true → rm ((s * 8 + i) * 8 + k) = 0)))
    (h : wY_access_99 post (nI t) (nI s) (nI k) (pa_b w) (nI S) (nI K) (nI T) (nI C) uY en sp de vo na rm wm sv sW ss cv ft fa fc n (nI (i + 1))) : wY_access_99 post (nI t) (nI s) (nI k) (pa_b w) (nI S) (nI K) (nI T) (nI C) uY en sp de vo na rm wm sv sW ss cv ft fa fc (n + 1) (nI i) := by
  have i3 : vp_in (nI ((s * 8 + i) * 8 + k)) 320 := vp_in_nI (by omega) (by decide)
  refine br_f (nI_ge hi (by omega)) ?_
  by_cases e : i = t
  · exact br_t (congrArg nI e) (nm_r (nI_1 _) h)
  obtain ⟨h1, h2⟩ := hn.resolve_left e
  refine br_f (pa_ne e (by omega) (by omega)) (yw_cell s i k ?_)
  rw [nI_clamp (show (s * 8 + i) * 8 + k < 2 ^ 31 by omega)]
  refine ⟨i3, br_t h1 ?_⟩
  cases w with
  | false => exact br_t rfl (nm_r (nI_1 _) h)
  | true =>
    refine br_f (by decide) (yw_cell s i k ?_)
    rw [nI_clamp (show (s * 8 + i) * 8 + k < 2 ^ 31 by omega)]
    exact ⟨i3, br_t (h2 rfl) (nm_r (nI_1 _) h)⟩
theorem ym_hit {post : Int32 → SY → Prop} (w : Bool) (t s k i n : Nat) (hk : k < 8) (hs : s < 5) (hi : i < T) (hT : T ≤ 8) (ht : t < 8) (e : i ≠ t) (hn : ¬ (wm ((s * 8 + i) * 8 + k) = 0 ∧ (w = true → rm ((s * 8 + i) * 8 + k) = 0)))
    (h : post (-5) (nI S, nI K, nI T, nI C, uY, en, sp, de, vo, na, rm, wm, sv, sW, ss, cv, ft, fa, fc)) : wY_access_99 post (nI t) (nI s) (nI k) (pa_b w) (nI S) (nI K) (nI T) (nI C) uY en sp de vo na rm wm sv sW ss cv ft fa fc (n + 1) (nI i) := by
  have i3 : vp_in (nI ((s * 8 + i) * 8 + k)) 320 := vp_in_nI (by omega) (by decide)
  refine br_f (nI_ge hi (by omega)) (br_f (pa_ne e (by omega) (by omega)) (yw_cell s i k ?_))
  rw [nI_clamp (show (s * 8 + i) * 8 + k < 2 ^ 31 by omega)]
  refine ⟨i3, br_c (fun h1 => ?_) (fun _ => h)⟩
  cases w with
  | false => exact absurd ⟨h1, fun z => absurd z (by decide)⟩ hn
  | true =>
    refine br_f (by decide) (yw_cell s i k ?_)
    rw [nI_clamp (show (s * 8 + i) * 8 + k < 2 ^ 31 by omega)]
    exact ⟨i3, br_c (fun h2 => absurd ⟨h1, fun _ => h2⟩ hn) (fun _ => h)⟩
theorem lk_marks (h : (pa_G S K T C up uY en me ye re ac rM wM sp sS fa fc fl vo na rm wm sW ft)) (w : Bool) (t s k : Nat) (ht : t < T) (h1 : 1 ≤ s) (hs : s ≤ S) (hk : k < K) : ∀ d i : Nat, i + d = T →
    (∀ n, d < n → (∀ post : Int32 → Prop, post 0 → wX_markedByOther_8 post (nI t) (nI s) (pa_b w) ((1 : Int32) <<< (nI k &&& 31)) (nI S) (nI K) (nI T) (nI C) up en me ye re ac rM wM sv sp sS ss cv fa fc de fl n (nI i)) ∧ (∀ post : Int32 → SY → Prop, (∀ m, wY_access_99 post (nI t) (nI s) (nI k) (pa_b w) (nI S) (nI K) (nI T) (nI C) uY en sp de vo na rm wm sv sW ss cv ft fa fc (m + 1) (nI T)) → wY_access_99 post (nI t) (nI s) (nI k) (pa_b w) (nI S) (nI K) (nI T) (nI C) uY en sp de vo na rm wm sv sW ss cv ft fa fc n (nI i))) ∨
    (∀ n, d < n → (∀ post : Int32 → Prop, post 1 → wX_markedByOther_8 post (nI t) (nI s) (pa_b w) ((1 : Int32) <<< (nI k &&& 31)) (nI S) (nI K) (nI T) (nI C) up en me ye re ac rM wM sv sp sS ss cv fa fc de fl n (nI i)) ∧ (∀ post : Int32 → SY → Prop, post (-5) (nI S, nI K, nI T, nI C, uY, en, sp, de, vo, na, rm, wm, sv, sW, ss, cv, ft, fa, fc) → wY_access_99 post (nI t) (nI s) (nI k) (pa_b w) (nI S) (nI K) (nI T) (nI C) uY en sp de vo na rm wm sv sW ss cv ft fa fc n (nI i))) := by
  obtain ⟨⟨_, hS⟩, ⟨_, hK⟩, ⟨_, hT⟩, ⟨_, hC⟩⟩ := h.1
  intro d
  induction d with
  | zero =>
    intro i hi
    have e : T = i := by omega
    subst e
    refine Or.inl fun n hn => ?_
    obtain ⟨n, rfl⟩ : ∃ q, n = q + 1 := ⟨n - 1, by omega⟩
    exact ⟨fun post hp => br_t (nI_le (by omega) (by omega)) hp, fun post hp => hp n⟩
  | succ d ih =>
    intro i hi
    have hiT : i < T := by omega
    obtain ⟨a1, a2, a3, a4, a5⟩ := h.2.2.2.2.1 (s * 8 + i) (by omega)
    have er : rm ((s * 8 + i) * 8 + k) = pa_b (bt (rM (s * 8 + i)) k) := a4 k hk
    have ew : wm ((s * 8 + i) * 8 + k) = pa_b (bt (wM (s * 8 + i)) k) := a5 k hk
    have eq : (wm ((s * 8 + i) * 8 + k) = 0 ∧ (w = true → rm ((s * 8 + i) * 8 + k) = 0)) ↔ bt (pa_ms w (wM (s * 8 + i)) (rM (s * 8 + i))) k = false := by
      rw [er, ew, pa_b0, pa_b0]
      cases w with
      | false =>
        show _ ↔ bt (wM (s * 8 + i)) k = false
        exact ⟨fun z => z.1, fun z => ⟨z, fun q => absurd q (by decide)⟩⟩
      | true =>
        show _ ↔ bt (wM (s * 8 + i) ||| rM (s * 8 + i)) k = false
        rw [b_or, Bool.or_eq_false_iff]
        exact ⟨fun z => ⟨z.1, z.2 rfl⟩, fun z => ⟨z.1, fun _ => z.2⟩⟩
    have e0 : en (s * 8 + i) = 0 → bt (pa_ms w (wM (s * 8 + i)) (rM (s * 8 + i))) k = false := fun z => by
      obtain ⟨z1, z2⟩ := a3 z
      rw [← eq, er, ew, z1, z2, b_0]
      exact ⟨rfl, fun _ => rfl⟩
    by_cases hn : i = t ∨ bt (pa_ms w (wM (s * 8 + i)) (rM (s * 8 + i))) k = false
    · have hnX : i = t ∨ en (s * 8 + i) = 0 ∨ bt (pa_ms w (wM (s * 8 + i)) (rM (s * 8 + i))) k = false := hn.elim Or.inl (fun z => Or.inr (Or.inr z))
      have hnY : i = t ∨ (wm ((s * 8 + i) * 8 + k) = 0 ∧ (w = true → rm ((s * 8 + i) * 8 + k) = 0)) := hn.elim Or.inl (fun z => Or.inr (eq.mpr z))
      rcases ih (i + 1) (by omega) with z | z
      · refine Or.inl fun n hn => ?_
        obtain ⟨n, rfl⟩ : ∃ q, n = q + 1 := ⟨n - 1, by omega⟩
        obtain ⟨z1, z2⟩ := z n (by omega)
        exact ⟨fun post hp => xm_next w t s k i n (by omega) (by omega) hiT hT (by omega) hnX (z1 post hp), fun post hp => ym_next w t s k i n (by omega) (by omega) hiT hT (by omega) hnY (z2 post hp)⟩
      · refine Or.inr fun n hn => ?_
        obtain ⟨n, rfl⟩ : ∃ q, n = q + 1 := ⟨n - 1, by omega⟩
        obtain ⟨z1, z2⟩ := z n (by omega)
        exact ⟨fun post hp => xm_next w t s k i n (by omega) (by omega) hiT hT (by omega) hnX (z1 post hp), fun post hp => ym_next w t s k i n (by omega) (by omega) hiT hT (by omega) hnY (z2 post hp)⟩
    · have n1 : i ≠ t := fun z => hn (Or.inl z)
      have n2 : ¬ bt (pa_ms w (wM (s * 8 + i)) (rM (s * 8 + i))) k = false := fun z => hn (Or.inr z)
      have n3 : bt (pa_ms w (wM (s * 8 + i)) (rM (s * 8 + i))) k = true := by
        cases hq : bt (pa_ms w (wM (s * 8 + i)) (rM (s * 8 + i))) k with
        | true => rfl
        | false => exact absurd hq n2
      refine Or.inr fun n hn => ?_
      obtain ⟨n, rfl⟩ : ∃ q, n = q + 1 := ⟨n - 1, by omega⟩
      exact ⟨fun post hp => xm_hit w t s k i n (by omega) (by omega) hiT hT (by omega) n1 (fun z => n2 (e0 z)) n3 hp, fun post hp => ym_hit w t s k i n (by omega) (by omega) hiT hT (by omega) n1 (fun z => n2 (eq.mp z)) hp⟩
/-! the tests -/
theorem xa_test {post : Int32 → Prop} (t s k : Nat) (ht : t < T) (hT : T ≤ 8) (h1 : 1 ≤ s) (hs : s ≤ S) (hS : S ≤ 4) (hk : k < K) (hK : K ≤ 8)
    (h1a : up 0 = 0 → post (-2)) (h2a : ¬ up 0 = 0 → up s = 0 → post (-2)) (h3a : ¬ up 0 = 0 → ¬ up s = 0 → ¬ en t = 1 → post (-3))
    (h4a : ¬ up 0 = 0 → ¬ up s = 0 → en t = 1 → bt (me t) s = true → en (s * 8 + t) = 0 → post (-4))
    (h5a : ¬ up 0 = 0 → ¬ up s = 0 → en t = 1 → (bt (me t) s = true → ¬ en (s * 8 + t) = 0) → post 0) :
    wpX_testAccess post (nI S, nI K, nI T, nI C, up, en, me, ye, re, ac, rM, wM, sv, sp, sS, ss, cv, fa, fc, de, fl) (nI t) (nI s) (nI k) := by
  have c1 : (nI t).toNatClampNeg = t := nI_clamp (by omega)
  have c2 : (nI s).toNatClampNeg = s := nI_clamp (by omega)
  have c3 : (nI (s * 8 + t)).toNatClampNeg = s * 8 + t := nI_clamp (by omega)
  unfold wpX_testAccess
  refine xw_isTx t ht hT (br_f (by decide) (xw_isStore s h1 hs hS (br_f (by decide) (xw_isKey k hk hK (br_f (by decide) ?_)))))
  rw [pa_at, c1, c2, c3]
  refine br_c h1a fun n0 => ⟨vp_in_nI (by omega) (by decide), br_c (h2a n0) fun ns => ⟨vp_in_nI (by omega) (by decide), br_c (fun e1 => ⟨vp_in_nI (by omega) (by decide), ?_⟩) (h3a n0 ns)⟩⟩
  refine br_c (fun z => h5a n0 ns e1 fun q => absurd ((pa_and0 _ (by omega)).mp z) (by rw [q]; decide)) fun z => ⟨vp_in_nI (by omega) (by decide), ?_⟩
  have hb := (pa_and1 _ (by omega)).mp z
  exact br_c (fun q => h4a n0 ns e1 hb q) (fun q => h5a n0 ns e1 (fun _ => q))
theorem ya_test {post : Int32 → SY → Prop} {x : Int32} (t s k : Nat) (ht : t < T) (hT : T ≤ 8) (h1 : 1 ≤ s) (hs : s ≤ S) (hS : S ≤ 4) (hk : k < K) (hK : K ≤ 8)
    (h1a : uY 0 = 0 → post (-2) (nI S, nI K, nI T, nI C, uY, en, sp, de, vo, na, rm, wm, sv, sW, ss, cv, ft, fa, fc)) (h2a : ¬ uY 0 = 0 → uY s = 0 → post (-2) (nI S, nI K, nI T, nI C, uY, en, sp, de, vo, na, rm, wm, sv, sW, ss, cv, ft, fa, fc)) (h3a : ¬ uY 0 = 0 → ¬ uY s = 0 → ¬ en t = 1 → post (-3) (nI S, nI K, nI T, nI C, uY, en, sp, de, vo, na, rm, wm, sv, sW, ss, cv, ft, fa, fc))
    (h4a : ¬ uY 0 = 0 → ¬ uY s = 0 → en t = 1 → ¬ vo (s * 8 + t) = 0 → en (s * 8 + t) = 0 → post (-4) (nI S, nI K, nI T, nI C, uY, en, sp, de, vo, na, rm, wm, sv, sW, ss, cv, ft, fa, fc))
    (h5a : ¬ uY 0 = 0 → ¬ uY s = 0 → en t = 1 → (¬ vo (s * 8 + t) = 0 → ¬ en (s * 8 + t) = 0) → ∃ n, wY_access_99 post (nI t) (nI s) (nI k) x (nI S) (nI K) (nI T) (nI C) uY en sp de vo na rm wm sv sW ss cv ft fa fc n 0) :
    wpY_access post (nI S, nI K, nI T, nI C, uY, en, sp, de, vo, na, rm, wm, sv, sW, ss, cv, ft, fa, fc) (nI t) (nI s) (nI k) x := by
  have c1 : (nI t).toNatClampNeg = t := nI_clamp (by omega)
  have c2 : (nI s).toNatClampNeg = s := nI_clamp (by omega)
  have c3 : (nI (s * 8 + t)).toNatClampNeg = s * 8 + t := nI_clamp (by omega)
  unfold wpY_access
  refine yw_badT t ht hT (br_t rfl (yw_badStore s h1 hs hS (br_t rfl (yw_badKey k hk hK (br_t rfl ?_)))))
  rw [c2]
  refine br_c h1a fun n0 => ⟨vp_in_nI (by omega) (by decide), br_c (h2a n0) fun ns => yw_at0 t ?_⟩
  rw [c1]
  refine ⟨vp_in_nI (by omega) (by decide), br_c (fun e1 => yw_at s t ?_) (h3a n0 ns)⟩
  rw [c3]
  refine ⟨vp_in_nI (by omega) (by decide), br_c (fun z => h5a n0 ns e1 fun q => absurd z q) fun z => yw_at s t ?_⟩
  rw [c3]
  exact ⟨vp_in_nI (by omega) (by decide), br_c (fun q => h4a n0 ns e1 z q) (fun q => h5a n0 ns e1 (fun _ => q))⟩
theorem xa_enl0 {post : SX → Prop} (t s : Nat) (ht : t < 8) (h1 : 1 ≤ s) (hs : s < 5) (hb : bt (me t) s = false)
    (h : post (nI S, nI K, nI T, nI C, up, upd (upd en (s * 8 + t) 0) (s * 8 + t) 1, upd me t (me t ||| ((1 : Int32) <<< (nI s &&& 31))), ye, re, ac, upd rM (s * 8 + t) 0, upd wM (s * 8 + t) 0, sv, sp, sS, ss, cv, fa, fc, de, fl)) : wpX_enlist post (nI S, nI K, nI T, nI C, up, en, me, ye, re, ac, rM, wM, sv, sp, sS, ss, cv, fa, fc, de, fl) (nI t) (nI s) := by
  have i8 : vp_in (nI t) 8 := vp_in_nI ht (by decide)
  refine nm_e (And.intro i8 ?_)
  rw [nI_clamp (show t < 2 ^ 31 by omega)]
  refine br_t ((pa_and0 _ (by omega)).mpr hb) ⟨i8, i8, nm_e (xw_clearS s t h1 hs ht ?_)⟩
  rw [pa_at, nI_clamp (show s * 8 + t < 2 ^ 31 by omega)]
  exact ⟨vp_in_nI (by omega) (by decide), nm_e h⟩
theorem xa_enl1 {post : SX → Prop} (t s : Nat) (ht : t < 8) (hs : s < 5) (hb : bt (me t) s = true)
    (h : post (nI S, nI K, nI T, nI C, up, en, me, ye, re, ac, rM, wM, sv, sp, sS, ss, cv, fa, fc, de, fl)) : wpX_enlist post (nI S, nI K, nI T, nI C, up, en, me, ye, re, ac, rM, wM, sv, sp, sS, ss, cv, fa, fc, de, fl) (nI t) (nI s) := by
  have i8 : vp_in (nI t) 8 := vp_in_nI ht (by decide)
  refine nm_e (And.intro i8 ?_)
  rw [nI_clamp (show t < 2 ^ 31 by omega)]
  exact br_f ((pa_and1 _ (by omega)).mpr hb) h
theorem ya_end0 {post : Int32 → SY → Prop} {x : Int32} (t s k n : Nat) (ht : t < 8) (h1 : 1 ≤ s) (hs : s < 5) (hK : K ≤ 8) (hT : T ≤ 8) (hv : vo (s * 8 + t) = 0)
    (h : post 0 (nI S, nI K, nI T, nI C, uY, upd (upd en (s * 8 + t) 0) (s * 8 + t) 1, sp, de, upd vo (s * 8 + t) 1, na, pa_zr rm ((s * 8 + t) * 8) K, pa_zr wm ((s * 8 + t) * 8) K, sv, sW, ss, cv, ft, fa, fc)) : wY_access_99 post (nI t) (nI s) (nI k) x (nI S) (nI K) (nI T) (nI C) uY en sp de vo na rm wm sv sW ss cv ft fa fc (n + 1) (nI T) := by
  have i40 : vp_in (nI (s * 8 + t)) 40 := vp_in_nI (by omega) (by decide)
  have c3 : (nI (s * 8 + t)).toNatClampNeg = s * 8 + t := nI_clamp (by omega)
  refine br_t (nI_le (Nat.le_refl _) (by omega)) (yw_at s t ?_)
  rw [c3]
  refine ⟨i40, br_t hv (yw_at s t ?_)⟩
  rw [c3]
  refine ⟨i40, nm_e (yw_dropS s t h1 hs ht hK (yw_at s t ?_))⟩
  rw [c3]
  exact ⟨i40, nm_e h⟩
theorem ya_end1 {post : Int32 → SY → Prop} {x : Int32} (t s k n : Nat) (ht : t < 8) (hs : s < 5) (hT : T ≤ 8) (hv : ¬ vo (s * 8 + t) = 0)
    (h : post 0 (nI S, nI K, nI T, nI C, uY, en, sp, de, vo, na, rm, wm, sv, sW, ss, cv, ft, fa, fc)) : wY_access_99 post (nI t) (nI s) (nI k) x (nI S) (nI K) (nI T) (nI C) uY en sp de vo na rm wm sv sW ss cv ft fa fc (n + 1) (nI T) := by
  refine br_t (nI_le (Nat.le_refl _) (by omega)) (yw_at s t ?_)
  rw [nI_clamp (show s * 8 + t < 2 ^ 31 by omega)]
  exact ⟨vp_in_nI (by omega) (by decide), br_f hv h⟩
theorem g_enl (h : (pa_G S K T C up uY en me ye re ac rM wM sp sS fa fc fl vo na rm wm sW ft)) (t s : Nat) (ht : t < 8) (h1 : 1 ≤ s) (hs : s ≤ S) (he : en t = 1) (hu : ¬ up s = 0) :
    (pa_G S K T C up uY (upd (upd en (s * 8 + t) 0) (s * 8 + t) 1) (upd me t (me t ||| ((1 : Int32) <<< (nI s &&& 31)))) ye re ac (upd rM (s * 8 + t) 0) (upd wM (s * 8 + t) 0) sp sS fa fc fl (upd vo (s * 8 + t) 1) na (pa_zr rm ((s * 8 + t) * 8) K) (pa_zr wm ((s * 8 + t) * 8) K) sW ft) := by
  have G1 := g_clearS h s t h1 ht
  obtain ⟨sz, gu, ge, gv, gm, gs, gf, gl⟩ := G1
  have hS : S ≤ 4 := sz.1.2
  refine ⟨sz, gu_upd gu sz.2.2.1.2 s t ht (Or.inr hu), ge_upd ge _ (fun _ => Or.inr (Or.inl rfl)), ?_, gm_en gm _ (by omega) (by decide), gs, gf, gl⟩
  refine gv_far ?_ _ (by omega)
  refine gv_upd gv t (fun t' ht' hne => ⟨rfl, pk_un hne, rfl, rfl, rfl, fun s' g1 g2 => pk_un (by omega)⟩) ?_
  have v := gv t ht
  have he' : upd en (s * 8 + t) 0 t = 1 := by rw [pk_un (by omega)]; exact he
  rw [he'] at v ⊢
  rw [pk_us]
  exact v1_enl v h1 hs hS (show upd vo (s * 8 + t) 1 (s * 8 + t) = 1 from pk_us) (fun s' hne => pk_un (by omega))
end
end
section
/-! read, write, commit, lose, duplicate -/
section
variable {S K T C : Nat} {up uY en me ye re ac rM wM sv sp sS ss cv fa fc de fl vo na rm wm sW ft en1 me1 vo1 rM1 wM1 rm1 wm1 : Nat → Int32}
theorem lk_acc (h : (pa_G S K T C up uY en me ye re ac rM wM sp sS fa fc fl vo na rm wm sW ft)) (w : Bool) (t s k : Nat) (ht : t < T) (h1 : 1 ≤ s) (hs : s ≤ S) (hk : k < K) :
    (∃ r : Int32, ¬ r = 0 ∧ (∀ post : Int32 → Prop, post r → wpX_testAccess post (nI S, nI K, nI T, nI C, up, en, me, ye, re, ac, rM, wM, sv, sp, sS, ss, cv, fa, fc, de, fl) (nI t) (nI s) (nI k)) ∧ (∀ post : Int32 → SY → Prop, post r (nI S, nI K, nI T, nI C, uY, en, sp, de, vo, na, rm, wm, sv, sW, ss, cv, ft, fa, fc) → wpY_access post (nI S, nI K, nI T, nI C, uY, en, sp, de, vo, na, rm, wm, sv, sW, ss, cv, ft, fa, fc) (nI t) (nI s) (nI k) (pa_b w))) ∨
    ((∀ post : Int32 → Prop, post 0 → wpX_testAccess post (nI S, nI K, nI T, nI C, up, en, me, ye, re, ac, rM, wM, sv, sp, sS, ss, cv, fa, fc, de, fl) (nI t) (nI s) (nI k)) ∧ (∀ post : Int32 → Prop, post 1 → wpX_markedByOther post (nI S, nI K, nI T, nI C, up, en, me, ye, re, ac, rM, wM, sv, sp, sS, ss, cv, fa, fc, de, fl) (nI t) (nI s) (nI k) (pa_b w)) ∧ (∀ post : Int32 → SY → Prop, post (-5) (nI S, nI K, nI T, nI C, uY, en, sp, de, vo, na, rm, wm, sv, sW, ss, cv, ft, fa, fc) → wpY_access post (nI S, nI K, nI T, nI C, uY, en, sp, de, vo, na, rm, wm, sv, sW, ss, cv, ft, fa, fc) (nI t) (nI s) (nI k) (pa_b w))) ∨
    (∃ en1 me1 vo1 rM1 wM1 rm1 wm1 : Nat → Int32, (pa_G S K T C up uY en1 me1 ye re ac rM1 wM1 sp sS fa fc fl vo1 na rm1 wm1 sW ft) ∧ ¬ en1 (s * 8 + t) = 0 ∧
      (∀ post : Int32 → Prop, post 0 → wpX_testAccess post (nI S, nI K, nI T, nI C, up, en, me, ye, re, ac, rM, wM, sv, sp, sS, ss, cv, fa, fc, de, fl) (nI t) (nI s) (nI k)) ∧ (∀ post : Int32 → Prop, post 0 → wpX_markedByOther post (nI S, nI K, nI T, nI C, up, en, me, ye, re, ac, rM, wM, sv, sp, sS, ss, cv, fa, fc, de, fl) (nI t) (nI s) (nI k) (pa_b w)) ∧
      (∀ q : SX → Prop, q (nI S, nI K, nI T, nI C, up, en1, me1, ye, re, ac, rM1, wM1, sv, sp, sS, ss, cv, fa, fc, de, fl) → wpX_enlist q (nI S, nI K, nI T, nI C, up, en, me, ye, re, ac, rM, wM, sv, sp, sS, ss, cv, fa, fc, de, fl) (nI t) (nI s)) ∧
      (∀ q : Int32 → SY → Prop, q 0 (nI S, nI K, nI T, nI C, uY, en1, sp, de, vo1, na, rm1, wm1, sv, sW, ss, cv, ft, fa, fc) → wpY_access q (nI S, nI K, nI T, nI C, uY, en, sp, de, vo, na, rm, wm, sv, sW, ss, cv, ft, fa, fc) (nI t) (nI s) (nI k) (pa_b w))) := by
  obtain ⟨⟨_, hS⟩, ⟨_, hK⟩, ⟨_, hT⟩, ⟨_, hC⟩⟩ := h.1
  have eu0 := h.2.1.1 0 (by omega)
  have eus := h.2.1.1 s hs
  have v := h.2.2.2.1 t (by omega)
  have z0 : vo (s * 8 + t) = 0 ↔ bt (me t) s = false := v1_z0 v h1 hs
  by_cases hu0 : up 0 = 0
  · have hu0' := eu0.trans hu0
    exact Or.inl ⟨-2, by decide, fun post hp => xa_test t s k ht hT h1 hs hS hk hK (fun _ => hp) (fun n => absurd hu0 n) (fun n => absurd hu0 n) (fun n => absurd hu0 n) (fun n => absurd hu0 n), fun post hp => ya_test t s k ht hT h1 hs hS hk hK (fun _ => hp) (fun n => absurd hu0' n) (fun n => absurd hu0' n) (fun n => absurd hu0' n) (fun n => absurd hu0' n)⟩
  have nu0' : ¬ uY 0 = 0 := by rw [eu0]; exact hu0
  by_cases hus : up s = 0
  · have hus' := eus.trans hus
    exact Or.inl ⟨-2, by decide, fun post hp => xa_test t s k ht hT h1 hs hS hk hK (fun n => absurd n hu0) (fun _ _ => hp) (fun _ n => absurd hus n) (fun _ n => absurd hus n) (fun _ n => absurd hus n), fun post hp => ya_test t s k ht hT h1 hs hS hk hK (fun n => absurd n nu0') (fun _ _ => hp) (fun _ n => absurd hus' n) (fun _ n => absurd hus' n) (fun _ n => absurd hus' n)⟩
  have nus' : ¬ uY s = 0 := by rw [eus]; exact hus
  by_cases he : en t = 1
  rotate_left
  · exact Or.inl ⟨-3, by decide, fun post hp => xa_test t s k ht hT h1 hs hS hk hK (fun n => absurd n hu0) (fun _ n => absurd n hus) (fun _ _ _ => hp) (fun _ _ n => absurd n he) (fun _ _ n => absurd n he), fun post hp => ya_test t s k ht hT h1 hs hS hk hK (fun n => absurd n nu0') (fun _ n => absurd n nus') (fun _ _ _ => hp) (fun _ _ n => absurd n he) (fun _ _ n => absurd n he)⟩
  by_cases hl : bt (me t) s = true ∧ en (s * 8 + t) = 0
  · have hl' : ¬ vo (s * 8 + t) = 0 := by rw [z0, hl.1]; decide
    exact Or.inl ⟨-4, by decide, fun post hp => xa_test t s k ht hT h1 hs hS hk hK (fun n => absurd n hu0) (fun _ n => absurd n hus) (fun _ _ n => absurd he n) (fun _ _ _ _ _ => hp) (fun _ _ _ n => absurd hl.2 (n hl.1)), fun post hp => ya_test t s k ht hT h1 hs hS hk hK (fun n => absurd n nu0') (fun _ n => absurd n nus') (fun _ _ n => absurd he n) (fun _ _ _ _ _ => hp) (fun _ _ _ n => absurd hl.2 (n hl'))⟩
  have tX : ∀ post : Int32 → Prop, post 0 → wpX_testAccess post (nI S, nI K, nI T, nI C, up, en, me, ye, re, ac, rM, wM, sv, sp, sS, ss, cv, fa, fc, de, fl) (nI t) (nI s) (nI k) := fun post hp => xa_test t s k ht hT h1 hs hS hk hK (fun n => absurd n hu0) (fun _ n => absurd n hus) (fun _ _ n => absurd he n) (fun _ _ _ n1 n2 => absurd ⟨n1, n2⟩ hl) (fun _ _ _ _ => hp)
  have tY : ∀ post : Int32 → SY → Prop, (∃ n, wY_access_99 post (nI t) (nI s) (nI k) (pa_b w) (nI S) (nI K) (nI T) (nI C) uY en sp de vo na rm wm sv sW ss cv ft fa fc n 0) → wpY_access post (nI S, nI K, nI T, nI C, uY, en, sp, de, vo, na, rm, wm, sv, sW, ss, cv, ft, fa, fc) (nI t) (nI s) (nI k) (pa_b w) := fun post hp => ya_test t s k ht hT h1 hs hS hk hK (fun n => absurd n nu0') (fun _ n => absurd n nus') (fun _ _ n => absurd he n) (fun _ _ _ n1 n2 => absurd ⟨by
      cases hb : bt (me t) s with
      | true => rfl
      | false => exact absurd (z0.mpr hb) n1, n2⟩ hl) (fun _ _ _ _ => hp)
  rcases lk_marks (sv := sv) (ss := ss) (cv := cv) (de := de) h w t s k ht h1 hs hk T 0 (by omega) with z | z
  · obtain ⟨z1, z2⟩ := z (T + 1) (by omega)
    have mX : ∀ post : Int32 → Prop, post 0 → wpX_markedByOther post (nI S, nI K, nI T, nI C, up, en, me, ye, re, ac, rM, wM, sv, sp, sS, ss, cv, fa, fc, de, fl) (nI t) (nI s) (nI k) (pa_b w) := fun post hp => nm_e ⟨T + 1, z1 post hp⟩
    refine Or.inr (Or.inr ?_)
    by_cases hb : bt (me t) s = true
    · have hv : ¬ vo (s * 8 + t) = 0 := by rw [z0, hb]; decide
      exact ⟨en, me, vo, rM, wM, rm, wm, h, fun q => hl ⟨hb, q⟩, tX, mX, fun q hq => xa_enl1 t s (by omega) (by omega) hb hq, fun q hq => tY q ⟨T + 1, z2 q fun m => ya_end1 t s k m (by omega) (by omega) hT hv hq⟩⟩
    · have hb' : bt (me t) s = false := Bool.eq_false_iff.mpr hb
      refine ⟨_, _, _, _, _, _, _, g_enl h t s (by omega) h1 hs he hus, ?_, tX, mX, fun q hq => xa_enl0 t s (by omega) h1 (by omega) hb' hq, fun q hq => tY q ⟨T + 1, z2 q fun m => ya_end0 t s k m (by omega) h1 (by omega) hK hT (z0.mpr hb') hq⟩⟩
      rw [pk_us]
      decide
  · obtain ⟨z1, z2⟩ := z (T + 1) (by omega)
    exact Or.inr (Or.inl ⟨tX, fun post hp => nm_e ⟨T + 1, z1 post hp⟩, fun post hp => tY post ⟨T + 1, z2 post hp⟩⟩)
theorem xr_ok {p : Int32 → SX → Prop} (t s k : Nat) (ht : t < 8) (hs : s < 5) (hk : k < 8) (hT : ∀ post : Int32 → Prop, post 0 → wpX_testAccess post (nI S, nI K, nI T, nI C, up, en, me, ye, re, ac, rM, wM, sv, sp, sS, ss, cv, fa, fc, de, fl) (nI t) (nI s) (nI k)) (hM : ∀ post : Int32 → Prop, post 0 → wpX_markedByOther post (nI S, nI K, nI T, nI C, up, en, me, ye, re, ac, rM, wM, sv, sp, sS, ss, cv, fa, fc, de, fl) (nI t) (nI s) (nI k) 0)
    (hE : ∀ q : SX → Prop, q (nI S, nI K, nI T, nI C, up, en1, me1, ye, re, ac, rM1, wM1, sv, sp, sS, ss, cv, fa, fc, de, fl) → wpX_enlist q (nI S, nI K, nI T, nI C, up, en, me, ye, re, ac, rM, wM, sv, sp, sS, ss, cv, fa, fc, de, fl) (nI t) (nI s))
    (h : p (if bt (wM1 (s * 8 + t)) k = true then sv ((s * 8 + t) * 8 + k) else cv (s * 8 + k)) (nI S, nI K, nI T, nI C, up, en1, me1, ye, re, ac, upd rM1 (s * 8 + t) (rM1 (s * 8 + t) ||| ((1 : Int32) <<< (nI k &&& 31))), wM1, sv, sp, sS, ss, cv, fa, fc, de, fl)) : wpX_read p (nI S, nI K, nI T, nI C, up, en, me, ye, re, ac, rM, wM, sv, sp, sS, ss, cv, fa, fc, de, fl) (nI t) (nI s) (nI k) := by
  have i40 : vp_in (nI (s * 8 + t)) 40 := vp_in_nI (by omega) (by decide)
  unfold wpX_read
  refine hT _ (br_t rfl (hM _ (br_t rfl (hE _ (nm_r (pa_at s t) (nm_e ?_))))))
  rw [pa_at, pa_at, nI_clamp (show s * 8 + t < 2 ^ 31 by omega), nI_clamp (show s * 8 + k < 2 ^ 31 by omega), nI_clamp (show (s * 8 + t) * 8 + k < 2 ^ 31 by omega)]
  refine ⟨i40, i40, nm_e ⟨i40, ?_⟩⟩
  by_cases hb : bt (wM1 (s * 8 + t)) k = true
  · rw [if_pos hb] at h
    exact br_f ((pa_and1 _ (by omega)).mpr hb) ⟨vp_in_nI (by omega) (by decide), h⟩
  · rw [if_neg hb] at h
    exact br_t ((pa_and0 _ (by omega)).mpr (Bool.eq_false_iff.mpr hb)) ⟨vp_in_nI (by omega) (by decide), h⟩
theorem yr_ok {p : Int32 → SY → Prop} (t s k : Nat) (ht : t < 8) (hs : s < 5) (hk : k < 8) (hw : wm1 ((s * 8 + t) * 8 + k) = pa_b (bt (wM1 (s * 8 + t)) k))
    (hA : ∀ q : Int32 → SY → Prop, q 0 (nI S, nI K, nI T, nI C, uY, en1, sp, de, vo1, na, rm1, wm1, sv, sW, ss, cv, ft, fa, fc) → wpY_access q (nI S, nI K, nI T, nI C, uY, en, sp, de, vo, na, rm, wm, sv, sW, ss, cv, ft, fa, fc) (nI t) (nI s) (nI k) 0)
    (h : p (if bt (wM1 (s * 8 + t)) k = true then sv ((s * 8 + t) * 8 + k) else cv (s * 8 + k)) (nI S, nI K, nI T, nI C, uY, en1, sp, de, vo1, na, upd rm1 ((s * 8 + t) * 8 + k) 1, wm1, sv, sW, ss, cv, ft, fa, fc)) : wpY_read p (nI S, nI K, nI T, nI C, uY, en, sp, de, vo, na, rm, wm, sv, sW, ss, cv, ft, fa, fc) (nI t) (nI s) (nI k) := by
  have i3 : vp_in (nI ((s * 8 + t) * 8 + k)) 320 := vp_in_nI (by omega) (by decide)
  have c3 : (nI ((s * 8 + t) * 8 + k)).toNatClampNeg = (s * 8 + t) * 8 + k := nI_clamp (by omega)
  unfold wpY_read
  refine hA _ (br_t rfl (yw_cell s t k ?_))
  rw [c3, pa_nb1]
  refine ⟨i3, nm_e (yw_cell s t k ?_)⟩
  rw [c3, hw]
  refine ⟨i3, ?_⟩
  by_cases hb : bt (wM1 (s * 8 + t)) k = true
  · rw [if_pos hb] at h
    refine br_f (pa_b1.mpr hb) (yw_cell s t k ?_)
    rw [c3]
    exact ⟨i3, h⟩
  · rw [if_neg hb] at h
    refine br_t (pa_b0.mpr (Bool.eq_false_iff.mpr hb)) (yw_at s k ?_)
    rw [nI_clamp (show s * 8 + k < 2 ^ 31 by omega)]
    exact ⟨vp_in_nI (by omega) (by decide), h⟩
theorem xwr_ok {p : Int32 → SX → Prop} {x : Int32} (t s k : Nat) (ht : t < 8) (hs : s < 5) (hk : k < 8) (hx : 0 ≤ x) (hT : ∀ post : Int32 → Prop, post 0 → wpX_testAccess post (nI S, nI K, nI T, nI C, up, en, me, ye, re, ac, rM, wM, sv, sp, sS, ss, cv, fa, fc, de, fl) (nI t) (nI s) (nI k)) (hM : ∀ post : Int32 → Prop, post 0 → wpX_markedByOther post (nI S, nI K, nI T, nI C, up, en, me, ye, re, ac, rM, wM, sv, sp, sS, ss, cv, fa, fc, de, fl) (nI t) (nI s) (nI k) 1)
    (hE : ∀ q : SX → Prop, q (nI S, nI K, nI T, nI C, up, en1, me1, ye, re, ac, rM1, wM1, sv, sp, sS, ss, cv, fa, fc, de, fl) → wpX_enlist q (nI S, nI K, nI T, nI C, up, en, me, ye, re, ac, rM, wM, sv, sp, sS, ss, cv, fa, fc, de, fl) (nI t) (nI s))
    (h : p 0 (nI S, nI K, nI T, nI C, up, en1, me1, ye, re, ac, rM1, upd wM1 (s * 8 + t) (wM1 (s * 8 + t) ||| ((1 : Int32) <<< (nI k &&& 31))), upd sv ((s * 8 + t) * 8 + k) x, sp, sS, ss, cv, fa, fc, de, fl)) : wpX_write p (nI S, nI K, nI T, nI C, up, en, me, ye, re, ac, rM, wM, sv, sp, sS, ss, cv, fa, fc, de, fl) (nI t) (nI s) (nI k) x := by
  have i40 : vp_in (nI (s * 8 + t)) 40 := vp_in_nI (by omega) (by decide)
  unfold wpX_write
  refine br_t hx (hT _ (br_t rfl (hM _ (br_t rfl (hE _ (nm_r (pa_at s t) ?_))))))
  rw [pa_at, nI_clamp (show s * 8 + t < 2 ^ 31 by omega), nI_clamp (show (s * 8 + t) * 8 + k < 2 ^ 31 by omega)]
  exact ⟨i40, i40, nm_e ⟨vp_in_nI (by omega) (by decide), nm_e h⟩⟩
theorem ywr_ok {p : Int32 → SY → Prop} {x : Int32} (t s k : Nat) (ht : t < 8) (hs : s < 5) (hk : k < 8) (hx : 0 ≤ x)
    (hA : ∀ q : Int32 → SY → Prop, q 0 (nI S, nI K, nI T, nI C, uY, en1, sp, de, vo1, na, rm1, wm1, sv, sW, ss, cv, ft, fa, fc) → wpY_access q (nI S, nI K, nI T, nI C, uY, en, sp, de, vo, na, rm, wm, sv, sW, ss, cv, ft, fa, fc) (nI t) (nI s) (nI k) 1)
    (h : p 0 (nI S, nI K, nI T, nI C, uY, en1, sp, de, vo1, na, rm1, upd wm1 ((s * 8 + t) * 8 + k) 1, upd sv ((s * 8 + t) * 8 + k) x, sW, ss, cv, ft, fa, fc)) : wpY_write p (nI S, nI K, nI T, nI C, uY, en, sp, de, vo, na, rm, wm, sv, sW, ss, cv, ft, fa, fc) (nI t) (nI s) (nI k) x := by
  have i3 : vp_in (nI ((s * 8 + t) * 8 + k)) 320 := vp_in_nI (by omega) (by decide)
  have c3 : (nI ((s * 8 + t) * 8 + k)).toNatClampNeg = (s * 8 + t) * 8 + k := nI_clamp (by omega)
  unfold wpY_write
  refine br_t hx (hA _ (br_t rfl (yw_cell s t k ?_)))
  rw [c3, pa_nb1]
  refine ⟨i3, nm_e (yw_cell s t k ?_)⟩
  rw [c3]
  exact ⟨i3, nm_e h⟩
end
theorem lk_read {S K T C : Nat} {u : SX} {v : SY} (I : pa_R S K T C u v) (t s k : Nat) (ht : t < T) (h1 : 1 ≤ s) (hs : s ≤ S) (hk : k < K) :
    pa_LR S K T C (fun p => wpX_read p u (nI t) (nI s) (nI k)) (fun p => wpY_read p v (nI t) (nI s) (nI k)) := by
  refine pa_el (P := fun u v => pa_LR S K T C (fun p => wpX_read p u (nI t) (nI s) (nI k)) (fun p => wpY_read p v (nI t) (nI s) (nI k))) ?_ I
  intro up uY en me ye re ac rM wM sv sp sS ss cv fa fc de fl vo na rm wm sW ft h
  obtain ⟨⟨_, hS⟩, ⟨_, hK⟩, ⟨_, hT⟩, ⟨_, hC⟩⟩ := h.1
  rcases lk_acc (sv := sv) (ss := ss) (cv := cv) (de := de) h false t s k ht h1 hs hk with ⟨r, hr, a1, a2⟩ | ⟨a1, a2, a3⟩ | ⟨en1, me1, vo1, rM1, wM1, rm1, wm1, G1, he, a1, a2, a3, a4⟩
  · refine ⟨r, _, _, pa_mk4 sv ss cv de h, fun p hp => ?_, fun p hp => ?_⟩
    · unfold wpX_read
      exact a1 _ (br_f hr hp)
    · unfold wpY_read
      exact a2 _ (br_f hr hp)
  · refine ⟨-5, _, _, pa_mk4 sv ss cv de h, fun p hp => ?_, fun p hp => ?_⟩
    · unfold wpX_read
      exact a1 _ (br_t rfl (a2 _ (br_f (by decide) hp)))
    · unfold wpY_read
      exact a3 _ (br_f (by decide) hp)
  · obtain ⟨sz, gu, ge, gv, gm, gs, gf, gl⟩ := G1
    have ew : wm1 ((s * 8 + t) * 8 + k) = pa_b (bt (wM1 (s * 8 + t)) k) := (gm (s * 8 + t) (by omega)).2.2.2.2 k hk
    exact ⟨_, _, _, pa_mk4 sv ss cv de ⟨sz, gu, ge, gv, gm_read gm hK (s * 8 + t) k (by omega) hk he, gs, gf, gl⟩, fun p hp => xr_ok t s k (by omega) (by omega) (by omega) a1 a2 a3 hp, fun p hp => yr_ok t s k (by omega) (by omega) (by omega) ew a4 hp⟩
theorem lk_write {S K T C : Nat} {u : SX} {v : SY} (I : pa_R S K T C u v) (t s k : Nat) (x : Int32) (hx : 0 ≤ x) (ht : t < T) (h1 : 1 ≤ s) (hs : s ≤ S) (hk : k < K) :
    pa_LR S K T C (fun p => wpX_write p u (nI t) (nI s) (nI k) x) (fun p => wpY_write p v (nI t) (nI s) (nI k) x) := by
  refine pa_el (P := fun u v => pa_LR S K T C (fun p => wpX_write p u (nI t) (nI s) (nI k) x) (fun p => wpY_write p v (nI t) (nI s) (nI k) x)) ?_ I
  intro up uY en me ye re ac rM wM sv sp sS ss cv fa fc de fl vo na rm wm sW ft h
  obtain ⟨⟨_, hS⟩, ⟨_, hK⟩, ⟨_, hT⟩, ⟨_, hC⟩⟩ := h.1
  rcases lk_acc (sv := sv) (ss := ss) (cv := cv) (de := de) h true t s k ht h1 hs hk with ⟨r, hr, a1, a2⟩ | ⟨a1, a2, a3⟩ | ⟨en1, me1, vo1, rM1, wM1, rm1, wm1, G1, he, a1, a2, a3, a4⟩
  · refine ⟨r, _, _, pa_mk4 sv ss cv de h, fun p hp => ?_, fun p hp => ?_⟩
    · unfold wpX_write
      exact br_t hx (a1 _ (br_f hr hp))
    · unfold wpY_write
      exact br_t hx (a2 _ (br_f hr hp))
  · refine ⟨-5, _, _, pa_mk4 sv ss cv de h, fun p hp => ?_, fun p hp => ?_⟩
    · unfold wpX_write
      exact br_t hx (a1 _ (br_t rfl (a2 _ (br_f (by decide) hp))))
    · unfold wpY_write
      exact br_t hx (a3 _ (br_f (by decide) hp))
  · obtain ⟨sz, gu, ge, gv, gm, gs, gf, gl⟩ := G1
    exact ⟨0, _, _, pa_mk4 (upd sv ((s * 8 + t) * 8 + k) x) ss cv de ⟨sz, gu, ge, gv, gm_write gm hK (s * 8 + t) k (by omega) hk he, gs, gf, gl⟩, fun p hp => xwr_ok t s k (by omega) (by omega) (by omega) hx a1 a2 a3 hp, fun p hp => ywr_ok t s k (by omega) (by omega) (by omega) hx a4 hp⟩
section
variable {S K T C : Nat} {up uY en me ye re ac rM wM sv sp sS ss cv fa fc de fl vo na rm wm sW ft : Nat → Int32}
theorem xc_71 {post : Int32 → SX → Prop} (t : Nat) (ht : t < 8) (hS : S ≤ 4) (h : post 0 (nI S, nI K, nI T, nI C, up, upd en t 2, me, ye, re, ac, rM, wM, sv, sp, sS, ss, cv, fa, fc, de, pa_sd C (fun s => 0 * 40 + s * 8 + t) (bt (me t &&& ((ye t ||| re t) ^^^ (-1)))) fl S)) : wX_commit_71 post (nI t) (nI S) (nI K) (nI T) (nI C) up en me ye re ac rM wM sv sp sS ss cv fa fc de fl := by
  unfold wX_commit_71
  rw [nI_clamp (show t < 2 ^ 31 by omega)]
  exact ⟨vp_in_nI (by omega) (by decide), nm_e (xw_missing t ht (xw_sendToSet 0 t (by decide) ht hS h))⟩
theorem yc_73 {post : Int32 → SY → Prop} (t : Nat) (hS : S ≤ 4) (ht : t < 8)
    (h : post 0 (nI S, nI K, nI T, nI C, uY, en, sp, de, vo, na, rm, wm, sv, sW, ss, cv, pa_sd C (fun s => (0 * 8 + t) * 5 + s) (pa_vQ vo t 1) ft S, fa, fc)) :
    ∀ d i n : Nat, i + d = S → d < n → wY_commit_73 post (nI t) n (nI (i + 1)) (nI S) (nI K) (nI T) (nI C) uY en sp de vo na rm wm sv sW ss cv (pa_sd C (fun s => (0 * 8 + t) * 5 + s) (pa_vQ vo t 1) ft i) fa fc := by
  intro d
  induction d with
  | zero =>
    intro i n hi hn
    obtain ⟨n, rfl⟩ : ∃ q, n = q + 1 := ⟨n - 1, by omega⟩
    have e : i = S := by omega
    subst e
    exact br_t (nI_lt (by omega) (by omega)) h
  | succ d ih =>
    intro i n hi hn
    obtain ⟨n, rfl⟩ : ∃ q, n = q + 1 := ⟨n - 1, by omega⟩
    have key := ih (i + 1) n (by omega) (by omega)
    refine br_f (nI_nlt (by omega) (by omega)) (yw_at (i + 1) t ?_)
    rw [nI_clamp (show (i + 1) * 8 + t < 2 ^ 31 by omega)]
    refine ⟨vp_in_nI (by omega) (by decide), ?_⟩
    by_cases h4 : vo ((i + 1) * 8 + t) = 1
    · have e : pa_sd C (fun s => (0 * 8 + t) * 5 + s) (pa_vQ vo t 1) ft (i + 1) = pa_snd C (pa_sd C (fun s => (0 * 8 + t) * 5 + s) (pa_vQ vo t 1) ft i) ((0 * 8 + t) * 5 + (i + 1)) := if_pos (decide_eq_true h4)
      rw [e] at key
      exact br_t h4 (yw_send 0 (i + 1) t (by decide) (by omega) ht (nm_r (nI_1 _) key))
    · have e : pa_sd C (fun s => (0 * 8 + t) * 5 + s) (pa_vQ vo t 1) ft (i + 1) = pa_sd C (fun s => (0 * 8 + t) * 5 + s) (pa_vQ vo t 1) ft i := if_neg (by unfold pa_vQ; simp [h4])
      rw [e] at key
      exact br_f h4 (nm_r (nI_1 _) key)
theorem yc_59 {post : Int32 → SY → Prop} (t : Nat) (hS : S ≤ 4) (ht : t < 8)
    (h : post 0 (nI S, nI K, nI T, nI C, uY, upd en t 2, sp, de, vo, na, rm, wm, sv, sW, ss, cv, pa_sd C (fun s => (0 * 8 + t) * 5 + s) (pa_vQ vo t 1) ft S, fa, fc)) : wY_commit_59 post (nI t) (nI S) (nI K) (nI T) (nI C) uY en sp de vo na rm wm sv sW ss cv ft fa fc := by
  unfold wY_commit_59
  refine yw_at0 t ?_
  rw [nI_clamp (show t < 2 ^ 31 by omega)]
  exact ⟨vp_in_nI (by omega) (by decide), nm_e ⟨S + 1, yc_73 t hS ht h S 0 (S + 1) (by omega) (by omega)⟩⟩
theorem g_vot (h : (pa_G S K T C up uY en me ye re ac rM wM sp sS fa fc fl vo na rm wm sW ft)) (t : Nat) (ht : t < 8) (he : en t = 1 ∨ en t = 2) (hu : ¬ up 0 = 0) :
    (pa_G S K T C up uY (upd en t 2) me ye re ac rM wM sp sS fa fc (pa_sd C (fun s => 0 * 40 + s * 8 + t) (bt (me t &&& ((ye t ||| re t) ^^^ (-1)))) fl S) vo na rm wm sW (pa_sd C (fun s => (0 * 8 + t) * 5 + s) (pa_vQ vo t 1) ft S)) := by
  have v := h.2.2.2.1 t ht
  have h4 : ¬ en t = 4 := by rcases he with he | he <;> rw [he] <;> decide
  have G1 := g_sd h (P := bt (me t &&& ((ye t ||| re t) ^^^ (-1)))) (Q := pa_vQ vo t 1) 0 t (by decide) ht (fun s g1 g2 => by
    have z : vo (s * 8 + t) = 1 ↔ bt (me t &&& ((ye t ||| re t) ^^^ (-1))) s = true := v1_z1 v h4 g1 g2
    unfold pa_vQ
    rw [Bool.eq_iff_iff, decide_eq_true_eq, z])
  obtain ⟨sz, gu, ge, gv, gm, gs, gf, gl⟩ := G1
  refine ⟨sz, gu_upd0 gu sz.2.2.1.2 t ht (Or.inr hu), ge_upd ge _ (fun z => absurd z (by omega)), gv_upd gv t (fun t' ht' hne => ⟨pk_un hne, rfl, rfl, rfl, rfl, fun s' g1 g2 => rfl⟩) ?_, gm_en gm t (by omega) (by decide), gs, gf, gl⟩
  rw [pk_us]
  exact v1_vot v he
end
theorem lk_commit {S K T C : Nat} {u : SX} {v : SY} (I : pa_R S K T C u v) (t : Nat) (ht : t < T) :
    pa_LR S K T C (fun p => wpX_commit p u (nI t)) (fun p => wpY_commit p v (nI t)) := by
  refine pa_el (P := fun u v => pa_LR S K T C (fun p => wpX_commit p u (nI t)) (fun p => wpY_commit p v (nI t))) ?_ I
  intro up uY en me ye re ac rM wM sv sp sS ss cv fa fc de fl vo na rm wm sW ft h
  obtain ⟨⟨_, hS⟩, ⟨_, hK⟩, ⟨_, hT⟩, ⟨_, hC⟩⟩ := h.1
  have ht8 : t < 8 := by omega
  have i40 : vp_in (nI t) 40 := vp_in_nI (by omega) (by decide)
  have i8 : vp_in (nI t) 8 := vp_in_nI ht8 (by decide)
  have cl : (nI t).toNatClampNeg = t := nI_clamp (by omega)
  have eu := h.2.1.1 0 (by omega)
  have v := h.2.2.2.1 t ht8
  by_cases hu : up 0 = 0
  · refine ⟨-2, _, _, pa_mk4 sv ss cv de h, fun p hp => ?_, fun p hp => ?_⟩
    · unfold wpX_commit
      exact xw_isTx t ht hT (br_f (by decide) (br_t hu hp))
    · unfold wpY_commit
      exact yw_stateD 0 t (by omega) hS ht hT (eu.trans hu) (br_f (by decide) hp)
  have hu' : ¬ uY 0 = 0 := by rw [eu]; exact hu
  by_cases he : en t = 1 ∨ en t = 2
  rotate_left
  · have he04 : en t = 0 ∨ en t = 4 := by
      rcases v.1 with z | z | z | z
      · exact Or.inl z
      · exact absurd (Or.inl z) he
      · exact absurd (Or.inr z) he
      · exact Or.inr z
    refine ⟨-3, _, _, pa_mk4 sv ss cv de h, fun p hp => ?_, fun p hp => ?_⟩
    · unfold wpX_commit
      refine xw_isTx t ht hT (br_f (by decide) (br_f hu ?_))
      rw [cl]
      exact ⟨i40, nm_e (br_f (fun z => he (Or.inl z)) (br_f (fun z => he (Or.inr z)) hp))⟩
    · unfold wpY_commit
      refine yw_stateU 0 t t (by omega) (by omega) hS ht hT hu' ?_
      rcases he04 with z | z <;> rw [z]
      · exact br_t (by decide) (br_t rfl hp)
      · exact br_t (by decide) (br_f (by decide) (br_t rfl hp))
  by_cases hm : en t = 1 ∧ me t = 0
  · have hc := (pa_ct0 vo t 1 S).mpr ((v1_mem0 v hm.1).mp hm.2)
    refine ⟨0, _, _, pa_mk4 sv ss cv (upd de t 4) (g_clear0 (vo' := vo) h t ht8 (fun _ _ _ _ => rfl)), fun p hp => ?_, fun p hp => ?_⟩
    · unfold wpX_commit
      refine xw_isTx t ht hT (br_f (by decide) (br_f hu ?_))
      rw [cl]
      refine ⟨i40, nm_r hm.1 (br_t rfl (br_t rfl ?_))⟩
      rw [cl]
      exact ⟨i8, br_t hm.2 ⟨i40, nm_e (xw_clear0 t ht8 hp)⟩⟩
    · unfold wpY_commit
      refine yw_stateU 0 t t (by omega) (by omega) hS ht hT hu' ?_
      rw [hm.1]
      refine br_t (by decide) (br_f (by decide) (br_f (by decide) (br_t rfl (yw_count t 1 hS ht8 (br_t (by rw [hc]; rfl) (yw_at0 t ?_))))))
      rw [cl]
      exact ⟨i40, nm_e (yw_drop0 t hS ht8 hK hp)⟩
  · refine ⟨0, _, _, pa_mk4 sv ss cv de (g_vot h t ht8 he hu), fun p hp => ?_, fun p hp => ?_⟩
    · have h71 := xc_71 t ht8 hS hp
      unfold wpX_commit
      refine xw_isTx t ht hT (br_f (by decide) (br_f hu ?_))
      rw [cl]
      rcases he with he | he
      · refine ⟨i40, nm_r he (br_t rfl (br_t rfl ?_))⟩
        rw [cl]
        exact ⟨i8, br_f (fun z => hm ⟨he, z⟩) h71⟩
      · exact ⟨i40, nm_r he (br_f (by decide) (br_t rfl (br_f (by decide) h71)))⟩
    · have h59 := yc_59 t hS ht8 hp
      have hl := pa_ct_le vo t 1 S
      unfold wpY_commit
      refine yw_stateU 0 t t (by omega) (by omega) hS ht hT hu' ?_
      rcases he with he | he <;> rw [he]
      · have hc : ¬ pa_ct vo t 1 S = 0 := fun z => hm ⟨he, (v1_mem0 v he).mpr ((pa_ct0 vo t 1 S).mp z)⟩
        exact br_t (by decide) (br_f (by decide) (br_f (by decide) (br_t rfl (yw_count t 1 hS ht8 (br_f (nI_ne0 (by omega) (by omega)) h59)))))
      · exact br_t (by decide) (br_f (by decide) (br_f (by decide) (br_f (by decide) h59)))
theorem lk_lose {S K T C : Nat} {u : SX} {v : SY} (I : pa_R S K T C u v) (k s t : Nat) (hk : k < 8) (h1 : 1 ≤ s) (hs : s ≤ S) (ht : t < T) :
    pa_LR S K T C (fun p => wpX_lose p u (nI k) (nI t) (nI s)) (fun p => wpY_lose p v (nI k) (nI t) (nI s)) := by
  refine pa_el (P := fun u v => pa_LR S K T C (fun p => wpX_lose p u (nI k) (nI t) (nI s)) (fun p => wpY_lose p v (nI k) (nI t) (nI s))) ?_ I
  intro up uY en me ye re ac rM wM sv sp sS ss cv fa fc de fl vo na rm wm sW ft h
  obtain ⟨⟨_, hS⟩, ⟨_, hK⟩, ⟨_, hT⟩, ⟨_, hC⟩⟩ := h.1
  have hs5 : s < 5 := by omega
  have ht8 : t < 8 := by omega
  obtain ⟨e1, n, hn, e2⟩ := h.2.2.2.2.2.2.1 k s t hk hs5 ht8
  have i3 : vp_in (nI (k * 40 + s * 8 + t)) 320 := vp_in_nI (by omega) (by decide)
  have c3 : (nI (k * 40 + s * 8 + t)).toNatClampNeg = k * 40 + s * 8 + t := nI_clamp (by omega)
  have i4 : vp_in (nI ((k * 8 + t) * 5 + s)) 320 := vp_in_nI (by omega) (by decide)
  have c4 : (nI ((k * 8 + t) * 5 + s)).toNatClampNeg = (k * 8 + t) * 5 + s := nI_clamp (by omega)
  rcases Nat.eq_zero_or_pos n with hn0 | hn0
  · subst hn0
    have hz : ¬ 0 < fl (k * 40 + s * 8 + t) := by rw [e2]; decide
    have hz' := e1.trans e2
    refine ⟨-7, _, _, pa_mk4 sv ss cv de h, fun p hp => ?_, fun p hp => ?_⟩
    · unfold wpX_lose
      refine xw_isMsg k t s hk ht hT h1 hs hS (br_f (by decide) (nm_r (pa_fx k s t) ?_))
      rw [c3]
      exact ⟨i3, br_f hz hp⟩
    · unfold wpY_lose
      exact yw_inFlight k t s hk ht hT h1 hs hS (br_f (by rw [hz']; decide) (br_t (by rw [hz']; decide) hp))
  have hf : 0 < fl (k * 40 + s * 8 + t) := by rw [e2]; exact nI_lt (a := 0) hn0 (by omega)
  have hf' : 0 < ft ((k * 8 + t) * 5 + s) := by rw [e1]; exact hf
  have hx : fl (k * 40 + s * 8 + t) - 1 = nI (n - 1) := by
    rw [e2]
    exact pk_sub (b := 1) hn0
  have hG : (pa_G S K T C up uY en me ye re ac rM wM sp sS fa fc (upd fl (k * 40 + s * 8 + t) (fl (k * 40 + s * 8 + t) - 1)) vo na rm wm sW (upd ft ((k * 8 + t) * 5 + s) (ft ((k * 8 + t) * 5 + s) - 1))) := by
    rw [e1]
    exact g_fupd h k s t (n - 1) hk hs5 ht8 (by omega) hx
  refine ⟨0, _, _, pa_mk4 sv ss cv de hG, fun p hp => ?_, fun p hp => ?_⟩
  · unfold wpX_lose
    refine xw_isMsg k t s hk ht hT h1 hs hS (br_f (by decide) (nm_r (pa_fx k s t) ?_))
    rw [c3]
    exact ⟨i3, br_t hf ⟨i3, i3, nm_e hp⟩⟩
  · unfold wpY_lose
    refine yw_inFlight k t s hk ht hT h1 hs hS (br_t hf' (yw_wire k t s ?_))
    rw [c4]
    exact ⟨i4, i4, nm_e hp⟩
theorem lk_dup {S K T C : Nat} {u : SX} {v : SY} (I : pa_R S K T C u v) (k s t : Nat) (hk : k < 8) (h1 : 1 ≤ s) (hs : s ≤ S) (ht : t < T) :
    pa_LR S K T C (fun p => wpX_duplicate p u (nI k) (nI t) (nI s)) (fun p => wpY_duplicate p v (nI k) (nI t) (nI s)) := by
  refine pa_el (P := fun u v => pa_LR S K T C (fun p => wpX_duplicate p u (nI k) (nI t) (nI s)) (fun p => wpY_duplicate p v (nI k) (nI t) (nI s))) ?_ I
  intro up uY en me ye re ac rM wM sv sp sS ss cv fa fc de fl vo na rm wm sW ft h
  obtain ⟨⟨_, hS⟩, ⟨_, hK⟩, ⟨_, hT⟩, ⟨_, hC⟩⟩ := h.1
  have hs5 : s < 5 := by omega
  have ht8 : t < 8 := by omega
  obtain ⟨e1, n, hn, e2⟩ := h.2.2.2.2.2.2.1 k s t hk hs5 ht8
  have i3 : vp_in (nI (k * 40 + s * 8 + t)) 320 := vp_in_nI (by omega) (by decide)
  have c3 : (nI (k * 40 + s * 8 + t)).toNatClampNeg = k * 40 + s * 8 + t := nI_clamp (by omega)
  have i4 : vp_in (nI ((k * 8 + t) * 5 + s)) 320 := vp_in_nI (by omega) (by decide)
  have c4 : (nI ((k * 8 + t) * 5 + s)).toNatClampNeg = (k * 8 + t) * 5 + s := nI_clamp (by omega)
  rcases Nat.eq_zero_or_pos n with hn0 | hn0
  · subst hn0
    have hz : ¬ 0 < fl (k * 40 + s * 8 + t) := by rw [e2]; decide
    have hz' := e1.trans e2
    refine ⟨-7, _, _, pa_mk4 sv ss cv de h, fun p hp => ?_, fun p hp => ?_⟩
    · unfold wpX_duplicate
      refine xw_isMsg k t s hk ht hT h1 hs hS (br_f (by decide) (nm_r (pa_fx k s t) ?_))
      rw [c3]
      exact ⟨i3, br_f hz hp⟩
    · unfold wpY_duplicate
      exact yw_inFlight k t s hk ht hT h1 hs hS (br_f (by rw [hz']; decide) (br_t (by rw [hz']; decide) hp))
  have hf : 0 < fl (k * 40 + s * 8 + t) := by rw [e2]; exact nI_lt (a := 0) hn0 (by omega)
  have hf' : 0 < ft ((k * 8 + t) * 5 + s) := by rw [e1]; exact hf
  by_cases hl : fl (k * 40 + s * 8 + t) < nI C
  · have hnC : n < C := by
      rw [e2, nI_ltI (by omega) (by omega)] at hl
      exact hl
    have hl' : ft ((k * 8 + t) * 5 + s) < nI C := by rw [e1]; exact hl
    have hG : (pa_G S K T C up uY en me ye re ac rM wM sp sS fa fc (upd fl (k * 40 + s * 8 + t) (fl (k * 40 + s * 8 + t) + 1)) vo na rm wm sW (upd ft ((k * 8 + t) * 5 + s) (ft ((k * 8 + t) * 5 + s) + 1))) := by
      rw [e1]
      exact g_fupd h k s t (n + 1) hk hs5 ht8 (by omega) (by rw [e2, nI_1])
    refine ⟨0, _, _, pa_mk4 sv ss cv de hG, fun p hp => ?_, fun p hp => ?_⟩
    · unfold wpX_duplicate
      refine xw_isMsg k t s hk ht hT h1 hs hS (br_f (by decide) (nm_r (pa_fx k s t) ?_))
      rw [c3]
      exact ⟨i3, br_t hf ⟨i3, br_t hl ⟨i3, i3, nm_e hp⟩⟩⟩
    · unfold wpY_duplicate
      refine yw_inFlight k t s hk ht hT h1 hs hS (br_t hf' (br_t hl' (yw_wire k t s ?_)))
      rw [c4]
      exact ⟨i4, i4, nm_e hp⟩
  · have hl' : ¬ ft ((k * 8 + t) * 5 + s) < nI C := by rw [e1]; exact hl
    refine ⟨-6, _, _, pa_mk4 sv ss cv de h, fun p hp => ?_, fun p hp => ?_⟩
    · unfold wpX_duplicate
      refine xw_isMsg k t s hk ht hT h1 hs hS (br_f (by decide) (nm_r (pa_fx k s t) ?_))
      rw [c3]
      exact ⟨i3, br_t hf ⟨i3, br_f hl hp⟩⟩
    · unfold wpY_duplicate
      exact yw_inFlight k t s hk ht hT h1 hs hS (br_t hf' (br_f hl' hp))
end
section
/-! arguments out of range; getters -/
abbrev pa_LG (A : (Int32 → Prop) → Prop) (B : (Int32 → Prop) → Prop) : Prop :=
  ∃ r : Int32, (∀ p : Int32 → Prop, p r → A p) ∧ (∀ p : Int32 → Prop, p r → B p)
theorem pa_cT {n : Nat} (x : Int32) (hn : n ≤ 8) : (x < 0 ∨ nI n ≤ x) ∨ ∃ t, t < n ∧ x = nI t := by
  rcases pk_ix x (show n < 2 ^ 31 by omega) with h | h | h
  · exact Or.inl (Or.inl h)
  · exact Or.inl (Or.inr h)
  · exact Or.inr h
theorem pa_cI {n : Nat} (x : Int32) (hn : n ≤ 8) : (x < 0 ∨ nI n < x) ∨ ∃ t, t ≤ n ∧ x = nI t := by
  by_cases h : x < 0
  · exact Or.inl (Or.inl h)
  · obtain ⟨j, hj, rfl⟩ := nI_of h
    by_cases h2 : j ≤ n
    · exact Or.inr ⟨j, h2, rfl⟩
    · exact Or.inl (Or.inr (nI_lt (by omega) hj))
theorem pa_cS {n : Nat} (x : Int32) (hn : n ≤ 8) : (x < 1 ∨ nI n < x) ∨ ∃ t, 1 ≤ t ∧ t ≤ n ∧ x = nI t := by
  by_cases h : x < 1
  · exact Or.inl (Or.inl h)
  · have h0 : ¬ x < 0 := fun z => h (Int32.lt_trans z (by decide))
    obtain ⟨j, hj, rfl⟩ := nI_of h0
    have h1 : ¬ j < 1 := fun z => h (nI_lt (b := 1) z (by decide))
    by_cases h2 : j ≤ n
    · exact Or.inr ⟨j, by omega, h2, rfl⟩
    · exact Or.inl (Or.inr (nI_lt (by omega) hj))
theorem pa_78 {x : Int32} (h : ¬ x < 0) : (8 : Int32) ≤ x ↔ (7 : Int32) < x := by
  obtain ⟨j, hj, rfl⟩ := nI_of h
  have e8 : (8 : Int32) = nI 8 := rfl
  have e7 : (7 : Int32) = nI 7 := rfl
  rw [e8, e7, nI_leI (by omega) hj, nI_ltI (by omega) hj]
  omega
section
variable {S K T C : Nat} {up uY en me ye re ac rM wM sv sp sS ss cv fa fc de fl vo na rm wm sW ft : Nat → Int32} {x y z : Int32}
theorem xb_Tx {post : Int32 → Prop} (h0 : x < 0 ∨ nI T ≤ x → post 0) (h1 : ¬ (x < 0 ∨ nI T ≤ x) → post 1) : wpX_isTx post (nI S, nI K, nI T, nI C, up, en, me, ye, re, ac, rM, wM, sv, sp, sS, ss, cv, fa, fc, de, fl) x :=
  br_c (fun a => h0 (Or.inl a)) (fun a => br_c (fun b => h0 (Or.inr b)) (fun b => h1 (fun q => q.elim a b)))
theorem xb_Key {post : Int32 → Prop} (h0 : x < 0 ∨ nI K ≤ x → post 0) (h1 : ¬ (x < 0 ∨ nI K ≤ x) → post 1) : wpX_isKey post (nI S, nI K, nI T, nI C, up, en, me, ye, re, ac, rM, wM, sv, sp, sS, ss, cv, fa, fc, de, fl) x :=
  br_c (fun a => h0 (Or.inl a)) (fun a => br_c (fun b => h0 (Or.inr b)) (fun b => h1 (fun q => q.elim a b)))
theorem xb_Site {post : Int32 → Prop} (h0 : x < 0 ∨ nI S < x → post 0) (h1 : ¬ (x < 0 ∨ nI S < x) → post 1) : wpX_isSite post (nI S, nI K, nI T, nI C, up, en, me, ye, re, ac, rM, wM, sv, sp, sS, ss, cv, fa, fc, de, fl) x :=
  br_c (fun a => h0 (Or.inl a)) (fun a => br_c (fun b => h0 (Or.inr b)) (fun b => h1 (fun q => q.elim a b)))
theorem xb_Store {post : Int32 → Prop} (h0 : x < 1 ∨ nI S < x → post 0) (h1 : ¬ (x < 1 ∨ nI S < x) → post 1) : wpX_isStore post (nI S, nI K, nI T, nI C, up, en, me, ye, re, ac, rM, wM, sv, sp, sS, ss, cv, fa, fc, de, fl) x :=
  br_c (fun a => h0 (Or.inl a)) (fun a => br_c (fun b => h0 (Or.inr b)) (fun b => h1 (fun q => q.elim a b)))
theorem yb_T {post : Int32 → Prop} (h0 : x < 0 ∨ nI T ≤ x → post 1) (h1 : ¬ (x < 0 ∨ nI T ≤ x) → post 0) : wpY_badT post (nI S, nI K, nI T, nI C, uY, en, sp, de, vo, na, rm, wm, sv, sW, ss, cv, ft, fa, fc) x :=
  br_c (fun a => h0 (Or.inl a)) (fun a => br_c (fun b => h1 (fun q => q.elim a (Int32.not_le.mpr b))) (fun b => h0 (Or.inr (Int32.not_lt.mp b))))
theorem yb_Key {post : Int32 → Prop} (h0 : x < 0 ∨ nI K ≤ x → post 1) (h1 : ¬ (x < 0 ∨ nI K ≤ x) → post 0) : wpY_badKey post (nI S, nI K, nI T, nI C, uY, en, sp, de, vo, na, rm, wm, sv, sW, ss, cv, ft, fa, fc) x :=
  br_c (fun a => h0 (Or.inl a)) (fun a => br_c (fun b => h1 (fun q => q.elim a (Int32.not_le.mpr b))) (fun b => h0 (Or.inr (Int32.not_lt.mp b))))
theorem yb_Site {post : Int32 → Prop} (h0 : x < 0 ∨ nI S < x → post 1) (h1 : ¬ (x < 0 ∨ nI S < x) → post 0) : wpY_badSite post (nI S, nI K, nI T, nI C, uY, en, sp, de, vo, na, rm, wm, sv, sW, ss, cv, ft, fa, fc) x :=
  br_c (fun a => h0 (Or.inl a)) (fun a => br_c (fun b => h1 (fun q => q.elim a (Int32.not_lt.mpr b))) (fun b => h0 (Or.inr (Int32.not_le.mp b))))
theorem yb_Store {post : Int32 → Prop} (h0 : x < 1 ∨ nI S < x → post 1) (h1 : ¬ (x < 1 ∨ nI S < x) → post 0) : wpY_badStore post (nI S, nI K, nI T, nI C, uY, en, sp, de, vo, na, rm, wm, sv, sW, ss, cv, ft, fa, fc) x :=
  br_c (fun a => h0 (Or.inl a)) (fun a => br_c (fun b => h1 (fun q => q.elim a (Int32.not_lt.mpr b))) (fun b => h0 (Or.inr (Int32.not_le.mp b))))
theorem xb_acc {post : Int32 → Prop} (hb : (x < 0 ∨ nI T ≤ x) ∨ (y < 1 ∨ nI S < y) ∨ (z < 0 ∨ nI K ≤ z)) (h : post (-1)) : wpX_testAccess post (nI S, nI K, nI T, nI C, up, en, me, ye, re, ac, rM, wM, sv, sp, sS, ss, cv, fa, fc, de, fl) x y z := by
  unfold wpX_testAccess
  exact xb_Tx (fun _ => br_t rfl h) (fun a => br_f (by decide) (xb_Store (fun _ => br_t rfl h) (fun b => br_f (by decide) (xb_Key (fun _ => br_t rfl h) (fun c => absurd hb (fun q => q.elim a (fun q => q.elim b c)))))))
theorem yb_acc {post : Int32 → SY → Prop} {w : Int32} (hb : (x < 0 ∨ nI T ≤ x) ∨ (y < 1 ∨ nI S < y) ∨ (z < 0 ∨ nI K ≤ z)) (h : post (-1) (nI S, nI K, nI T, nI C, uY, en, sp, de, vo, na, rm, wm, sv, sW, ss, cv, ft, fa, fc)) : wpY_access post (nI S, nI K, nI T, nI C, uY, en, sp, de, vo, na, rm, wm, sv, sW, ss, cv, ft, fa, fc) x y z w := by
  unfold wpY_access
  exact yb_T (fun _ => br_f (by decide) h) (fun a => br_t rfl (yb_Store (fun _ => br_f (by decide) h) (fun b => br_t rfl (yb_Key (fun _ => br_f (by decide) h) (fun c => absurd hb (fun q => q.elim a (fun q => q.elim b c)))))))
theorem xb_msg {post : Int32 → Prop} (hb : (x < 0 ∨ nI 8 ≤ x) ∨ (y < 0 ∨ nI T ≤ y) ∨ (z < 1 ∨ nI S < z)) (h : post 0) : wpX_isMessage post (nI S, nI K, nI T, nI C, up, en, me, ye, re, ac, rM, wM, sv, sp, sS, ss, cv, fa, fc, de, fl) x y z :=
  br_c (fun _ => h) (fun a1 => br_c (fun _ => h) (fun a2 => xb_Tx (fun _ => br_t rfl h) (fun b => br_f (by decide) (xb_Store (fun _ => br_t rfl h) (fun c => absurd hb (fun q => q.elim (fun q => q.elim a1 a2) (fun q => q.elim b c)))))))
theorem yb_msg {post : Int32 → Prop} (hb : (x < 0 ∨ nI 8 ≤ x) ∨ (y < 0 ∨ nI T ≤ y) ∨ (z < 1 ∨ nI S < z)) (h : post (-1)) : wpY_inFlight post (nI S, nI K, nI T, nI C, uY, en, sp, de, vo, na, rm, wm, sv, sW, ss, cv, ft, fa, fc) x y z :=
  br_c (fun _ => h) (fun a1 => br_c (fun _ => h) (fun a2 => yb_T (fun _ => br_f (by decide) h) (fun b => br_t rfl (yb_Store (fun _ => br_f (by decide) h) (fun c => absurd hb (fun q => q.elim (fun q => q.elim a1 (fun q => a2 ((pa_78 a1).mp q))) (fun q => q.elim b c)))))))
theorem yb_state {post : Int32 → Prop} (hb : (x < 0 ∨ nI S < x) ∨ (y < 0 ∨ nI T ≤ y)) (h : post (-1)) : wpY_state post (nI S, nI K, nI T, nI C, uY, en, sp, de, vo, na, rm, wm, sv, sW, ss, cv, ft, fa, fc) x y := by
  unfold wpY_state
  exact yb_Site (fun _ => br_f (by decide) h) (fun a => br_t rfl (yb_T (fun _ => br_f (by decide) h) (fun b => absurd hb (fun q => q.elim a b))))
end
theorem bd_read {S K T C : Nat} {u : SX} {v : SY} (I : pa_R S K T C u v) {x y z : Int32} (hb : (x < 0 ∨ nI T ≤ x) ∨ (y < 1 ∨ nI S < y) ∨ (z < 0 ∨ nI K ≤ z)) :
    pa_LR S K T C (fun p => wpX_read p u x y z) (fun p => wpY_read p v x y z) := by
  refine pa_el (P := fun u v => pa_LR S K T C (fun p => wpX_read p u x y z) (fun p => wpY_read p v x y z)) ?_ I
  intro up uY en me ye re ac rM wM sv sp sS ss cv fa fc de fl vo na rm wm sW ft h
  refine ⟨-1, _, _, pa_mk4 sv ss cv de h, fun p hp => ?_, fun p hp => ?_⟩
  · unfold wpX_read
    exact xb_acc hb (br_f (by decide) hp)
  · unfold wpY_read
    exact yb_acc hb (br_f (by decide) hp)
theorem bd_write {S K T C : Nat} {u : SX} {v : SY} (I : pa_R S K T C u v) {x y z w : Int32} (hb : ¬ 0 ≤ w ∨ (x < 0 ∨ nI T ≤ x) ∨ (y < 1 ∨ nI S < y) ∨ (z < 0 ∨ nI K ≤ z)) :
    pa_LR S K T C (fun p => wpX_write p u x y z w) (fun p => wpY_write p v x y z w) := by
  refine pa_el (P := fun u v => pa_LR S K T C (fun p => wpX_write p u x y z w) (fun p => wpY_write p v x y z w)) ?_ I
  intro up uY en me ye re ac rM wM sv sp sS ss cv fa fc de fl vo na rm wm sW ft h
  refine ⟨-1, _, _, pa_mk4 sv ss cv de h, fun p hp => ?_, fun p hp => ?_⟩
  · unfold wpX_write
    exact br_c (fun a => xb_acc (hb.resolve_left (fun q => q a)) (br_f (by decide) hp)) (fun _ => hp)
  · unfold wpY_write
    exact br_c (fun a => yb_acc (hb.resolve_left (fun q => q a)) (br_f (by decide) hp)) (fun _ => hp)
theorem bd_commit {S K T C : Nat} {u : SX} {v : SY} (I : pa_R S K T C u v) {x : Int32} (hb : x < 0 ∨ nI T ≤ x) :
    pa_LR S K T C (fun p => wpX_commit p u x) (fun p => wpY_commit p v x) := by
  refine pa_el (P := fun u v => pa_LR S K T C (fun p => wpX_commit p u x) (fun p => wpY_commit p v x)) ?_ I
  intro up uY en me ye re ac rM wM sv sp sS ss cv fa fc de fl vo na rm wm sW ft h
  refine ⟨-1, _, _, pa_mk4 sv ss cv de h, fun p hp => ?_, fun p hp => ?_⟩
  · unfold wpX_commit
    exact xb_Tx (fun _ => br_t rfl hp) (fun a => absurd hb a)
  · unfold wpY_commit
    exact yb_state (Or.inr hb) (br_f (by decide) hp)
theorem bd_deliver {S K T C : Nat} {u : SX} {v : SY} (I : pa_R S K T C u v) {x y z : Int32} (hb : (x < 0 ∨ nI 8 ≤ x) ∨ (y < 0 ∨ nI T ≤ y) ∨ (z < 1 ∨ nI S < z)) :
    pa_LR S K T C (fun p => wpX_deliver p u x y z) (fun p => wpY_deliver p v x y z) := by
  refine pa_el (P := fun u v => pa_LR S K T C (fun p => wpX_deliver p u x y z) (fun p => wpY_deliver p v x y z)) ?_ I
  intro up uY en me ye re ac rM wM sv sp sS ss cv fa fc de fl vo na rm wm sW ft h
  refine ⟨-1, _, _, pa_mk4 sv ss cv de h, fun p hp => ?_, fun p hp => ?_⟩
  · unfold wpX_deliver
    exact xb_msg hb (br_t rfl hp)
  · unfold wpY_deliver
    exact yb_msg hb (br_f (by decide) (br_f (by decide) hp))
theorem bd_lose {S K T C : Nat} {u : SX} {v : SY} (I : pa_R S K T C u v) {x y z : Int32} (hb : (x < 0 ∨ nI 8 ≤ x) ∨ (y < 0 ∨ nI T ≤ y) ∨ (z < 1 ∨ nI S < z)) :
    pa_LR S K T C (fun p => wpX_lose p u x y z) (fun p => wpY_lose p v x y z) := by
  refine pa_el (P := fun u v => pa_LR S K T C (fun p => wpX_lose p u x y z) (fun p => wpY_lose p v x y z)) ?_ I
  intro up uY en me ye re ac rM wM sv sp sS ss cv fa fc de fl vo na rm wm sW ft h
  refine ⟨-1, _, _, pa_mk4 sv ss cv de h, fun p hp => ?_, fun p hp => ?_⟩
  · unfold wpX_lose
    exact xb_msg hb (br_t rfl hp)
  · unfold wpY_lose
    exact yb_msg hb (br_f (by decide) (br_f (by decide) hp))
theorem bd_dup {S K T C : Nat} {u : SX} {v : SY} (I : pa_R S K T C u v) {x y z : Int32} (hb : (x < 0 ∨ nI 8 ≤ x) ∨ (y < 0 ∨ nI T ≤ y) ∨ (z < 1 ∨ nI S < z)) :
    pa_LR S K T C (fun p => wpX_duplicate p u x y z) (fun p => wpY_duplicate p v x y z) := by
  refine pa_el (P := fun u v => pa_LR S K T C (fun p => wpX_duplicate p u x y z) (fun p => wpY_duplicate p v x y z)) ?_ I
  intro up uY en me ye re ac rM wM sv sp sS ss cv fa fc de fl vo na rm wm sW ft h
  refine ⟨-1, _, _, pa_mk4 sv ss cv de h, fun p hp => ?_, fun p hp => ?_⟩
  · unfold wpX_duplicate
    exact xb_msg hb (br_t rfl hp)
  · unfold wpY_duplicate
    exact yb_msg hb (br_f (by decide) (br_f (by decide) hp))
theorem bd_timeout {S K T C : Nat} {u : SX} {v : SY} (I : pa_R S K T C u v) {x y : Int32} (hb : (x < 0 ∨ nI S < x) ∨ (y < 0 ∨ nI T ≤ y)) :
    pa_LR S K T C (fun p => wpX_timeout p u x y) (fun p => wpY_timeout p v x y) := by
  refine pa_el (P := fun u v => pa_LR S K T C (fun p => wpX_timeout p u x y) (fun p => wpY_timeout p v x y)) ?_ I
  intro up uY en me ye re ac rM wM sv sp sS ss cv fa fc de fl vo na rm wm sW ft h
  refine ⟨-1, _, _, pa_mk4 sv ss cv de h, fun p hp => ?_, fun p hp => ?_⟩
  · unfold wpX_timeout
    exact xb_Site (fun _ => br_t rfl hp) (fun a => br_f (by decide) (xb_Tx (fun _ => br_t rfl hp) (fun b => absurd hb (fun q => q.elim a b))))
  · unfold wpY_timeout
    exact yb_state hb (br_f (by decide) (br_f (by decide) hp))
theorem bd_crash {S K T C : Nat} {u : SX} {v : SY} (I : pa_R S K T C u v) {x y : Int32} (hb : x < 0 ∨ nI S < x) :
    pa_LR S K T C (fun p => wpX_crash p u x y) (fun p => wpY_crash p v x y) := by
  refine pa_el (P := fun u v => pa_LR S K T C (fun p => wpX_crash p u x y) (fun p => wpY_crash p v x y)) ?_ I
  intro up uY en me ye re ac rM wM sv sp sS ss cv fa fc de fl vo na rm wm sW ft h
  refine ⟨-1, _, _, pa_mk4 sv ss cv de h, fun p hp => ?_, fun p hp => ?_⟩
  · unfold wpX_crash
    exact xb_Site (fun _ => br_t rfl hp) (fun a => absurd hb a)
  · unfold wpY_crash
    exact yb_Site (fun _ => br_f (by decide) hp) (fun a => absurd hb a)
theorem bd_restart {S K T C : Nat} {u : SX} {v : SY} (I : pa_R S K T C u v) {x : Int32} (hb : x < 0 ∨ nI S < x) :
    pa_LR S K T C (fun p => wpX_restart p u x) (fun p => wpY_restart p v x) := by
  refine pa_el (P := fun u v => pa_LR S K T C (fun p => wpX_restart p u x) (fun p => wpY_restart p v x)) ?_ I
  intro up uY en me ye re ac rM wM sv sp sS ss cv fa fc de fl vo na rm wm sW ft h
  refine ⟨-1, _, _, pa_mk4 sv ss cv de h, fun p hp => ?_, fun p hp => ?_⟩
  · unfold wpX_restart
    exact xb_Site (fun _ => br_t rfl hp) (fun a => absurd hb a)
  · unfold wpY_restart
    exact yb_Site (fun _ => br_f (by decide) hp) (fun a => absurd hb a)
theorem bd_flush {S K T C : Nat} {u : SX} {v : SY} (I : pa_R S K T C u v) {x : Int32} (hb : x < 0 ∨ nI S < x) :
    pa_LR S K T C (fun p => wpX_flush p u x) (fun p => wpY_flush p v x) := by
  refine pa_el (P := fun u v => pa_LR S K T C (fun p => wpX_flush p u x) (fun p => wpY_flush p v x)) ?_ I
  intro up uY en me ye re ac rM wM sv sp sS ss cv fa fc de fl vo na rm wm sW ft h
  refine ⟨-1, _, _, pa_mk4 sv ss cv de h, fun p hp => ?_, fun p hp => ?_⟩
  · unfold wpX_flush
    exact xb_Site (fun _ => br_t rfl hp) (fun a => absurd hb a)
  · unfold wpY_flush
    exact yb_Site (fun _ => br_f (by decide) hp) (fun a => absurd hb a)
theorem gt_state {S K T C : Nat} {u : SX} {v : SY} (I : pa_R S K T C u v) (x y : Int32) : pa_LG (fun p => wpX_state p u x y) (fun p => wpY_state p v x y) := by
  refine pa_el (P := fun u v => pa_LG (fun p => wpX_state p u x y) (fun p => wpY_state p v x y)) ?_ I
  intro up uY en me ye re ac rM wM sv sp sS ss cv fa fc de fl vo na rm wm sW ft h
  obtain ⟨⟨_, hS⟩, ⟨_, hK⟩, ⟨_, hT⟩, ⟨_, hC⟩⟩ := h.1
  by_cases hb : (x < 0 ∨ nI S < x) ∨ (y < 0 ∨ nI T ≤ y)
  · refine ⟨-1, fun p hp => ?_, fun p hp => yb_state hb hp⟩
    unfold wpX_state
    exact xb_Site (fun _ => br_t rfl hp) (fun a => br_f (by decide) (xb_Tx (fun _ => br_t rfl hp) (fun b => absurd hb (fun q => q.elim a b))))
  obtain ⟨s, hs, rfl⟩ := (pa_cI (n := S) x (by omega)).resolve_left (fun q => hb (Or.inl q))
  obtain ⟨t, ht, rfl⟩ := (pa_cT (n := T) y hT).resolve_left (fun q => hb (Or.inr q))
  have eu := h.2.1.1 s hs
  by_cases hu : up s = 0
  · refine ⟨-2, fun p hp => ?_, fun p hp => yw_stateD s t hs hS ht hT (eu.trans hu) hp⟩
    unfold wpX_state
    refine xw_isSite s hs hS (br_f (by decide) (xw_isTx t ht hT (br_f (by decide) ?_)))
    rw [nI_clamp (show s < 2 ^ 31 by omega)]
    exact ⟨vp_in_nI (by omega) (by decide), br_t hu hp⟩
  · refine ⟨en (s * 8 + t), fun p hp => ?_, fun p hp => yw_stateU s t _ rfl hs hS ht hT (by rw [eu]; exact hu) hp⟩
    unfold wpX_state
    refine xw_isSite s hs hS (br_f (by decide) (xw_isTx t ht hT (br_f (by decide) ?_)))
    rw [nI_clamp (show s < 2 ^ 31 by omega), pa_at, nI_clamp (show s * 8 + t < 2 ^ 31 by omega)]
    exact ⟨vp_in_nI (by omega) (by decide), br_f hu ⟨vp_in_nI (by omega) (by decide), hp⟩⟩
theorem gt_stable {S K T C : Nat} {u : SX} {v : SY} (I : pa_R S K T C u v) (x y : Int32) : pa_LG (fun p => wpX_stable p u x y) (fun p => wpY_stable p v x y) := by
  refine pa_el (P := fun u v => pa_LG (fun p => wpX_stable p u x y) (fun p => wpY_stable p v x y)) ?_ I
  intro up uY en me ye re ac rM wM sv sp sS ss cv fa fc de fl vo na rm wm sW ft h
  obtain ⟨⟨_, hS⟩, ⟨_, hK⟩, ⟨_, hT⟩, ⟨_, hC⟩⟩ := h.1
  by_cases hb : (x < 0 ∨ nI S < x) ∨ (y < 0 ∨ nI T ≤ y)
  · refine ⟨-1, fun p hp => ?_, fun p hp => ?_⟩
    · unfold wpX_stable
      exact xb_Site (fun _ => br_t rfl hp) (fun a => br_f (by decide) (xb_Tx (fun _ => br_t rfl hp) (fun b => absurd hb (fun q => q.elim a b))))
    · unfold wpY_stable
      exact yb_Site (fun _ => br_f (by decide) hp) (fun a => br_t rfl (yb_T (fun _ => br_f (by decide) hp) (fun b => absurd hb (fun q => q.elim a b))))
  obtain ⟨s, hs, rfl⟩ := (pa_cI (n := S) x (by omega)).resolve_left (fun q => hb (Or.inl q))
  obtain ⟨t, ht, rfl⟩ := (pa_cT (n := T) y hT).resolve_left (fun q => hb (Or.inr q))
  refine ⟨sp (s * 8 + t), fun p hp => ?_, fun p hp => ?_⟩
  · unfold wpX_stable
    refine xw_isSite s hs hS (br_f (by decide) (xw_isTx t ht hT (br_f (by decide) ?_)))
    rw [pa_at, nI_clamp (show s * 8 + t < 2 ^ 31 by omega)]
    exact ⟨vp_in_nI (by omega) (by decide), hp⟩
  · unfold wpY_stable
    refine yw_badSite s hs hS (br_t rfl (yw_badT t ht hT (br_t rfl (yw_at s t ?_))))
    rw [nI_clamp (show s * 8 + t < 2 ^ 31 by omega)]
    exact ⟨vp_in_nI (by omega) (by decide), hp⟩
theorem gt_decided {S K T C : Nat} {u : SX} {v : SY} (I : pa_R S K T C u v) (x y : Int32) : pa_LG (fun p => wpX_decided p u x y) (fun p => wpY_decided p v x y) := by
  refine pa_el (P := fun u v => pa_LG (fun p => wpX_decided p u x y) (fun p => wpY_decided p v x y)) ?_ I
  intro up uY en me ye re ac rM wM sv sp sS ss cv fa fc de fl vo na rm wm sW ft h
  obtain ⟨⟨_, hS⟩, ⟨_, hK⟩, ⟨_, hT⟩, ⟨_, hC⟩⟩ := h.1
  by_cases hb : (x < 0 ∨ nI S < x) ∨ (y < 0 ∨ nI T ≤ y)
  · refine ⟨-1, fun p hp => ?_, fun p hp => ?_⟩
    · unfold wpX_decided
      exact xb_Site (fun _ => br_t rfl hp) (fun a => br_f (by decide) (xb_Tx (fun _ => br_t rfl hp) (fun b => absurd hb (fun q => q.elim a b))))
    · unfold wpY_decided
      exact yb_Site (fun _ => br_f (by decide) hp) (fun a => br_t rfl (yb_T (fun _ => br_f (by decide) hp) (fun b => absurd hb (fun q => q.elim a b))))
  obtain ⟨s, hs, rfl⟩ := (pa_cI (n := S) x (by omega)).resolve_left (fun q => hb (Or.inl q))
  obtain ⟨t, ht, rfl⟩ := (pa_cT (n := T) y hT).resolve_left (fun q => hb (Or.inr q))
  refine ⟨de (s * 8 + t), fun p hp => ?_, fun p hp => ?_⟩
  · unfold wpX_decided
    refine xw_isSite s hs hS (br_f (by decide) (xw_isTx t ht hT (br_f (by decide) ?_)))
    rw [pa_at, nI_clamp (show s * 8 + t < 2 ^ 31 by omega)]
    exact ⟨vp_in_nI (by omega) (by decide), hp⟩
  · unfold wpY_decided
    refine yw_badSite s hs hS (br_t rfl (yw_badT t ht hT (br_t rfl (yw_at s t ?_))))
    rw [nI_clamp (show s * 8 + t < 2 ^ 31 by omega)]
    exact ⟨vp_in_nI (by omega) (by decide), hp⟩
theorem gt_inFlight {S K T C : Nat} {u : SX} {v : SY} (I : pa_R S K T C u v) (x y z : Int32) : pa_LG (fun p => wpX_inFlight p u x y z) (fun p => wpY_inFlight p v x y z) := by
  refine pa_el (P := fun u v => pa_LG (fun p => wpX_inFlight p u x y z) (fun p => wpY_inFlight p v x y z)) ?_ I
  intro up uY en me ye re ac rM wM sv sp sS ss cv fa fc de fl vo na rm wm sW ft h
  obtain ⟨⟨_, hS⟩, ⟨_, hK⟩, ⟨_, hT⟩, ⟨_, hC⟩⟩ := h.1
  by_cases hb : (x < 0 ∨ nI 8 ≤ x) ∨ (y < 0 ∨ nI T ≤ y) ∨ (z < 1 ∨ nI S < z)
  · refine ⟨-1, fun p hp => ?_, fun p hp => yb_msg hb hp⟩
    unfold wpX_inFlight
    exact xb_msg hb (br_t rfl hp)
  obtain ⟨k, hk, rfl⟩ := (pa_cT (n := 8) x (by omega)).resolve_left (fun q => hb (Or.inl q))
  obtain ⟨t, ht, rfl⟩ := (pa_cT (n := T) y hT).resolve_left (fun q => hb (Or.inr (Or.inl q)))
  obtain ⟨s, h1, hs, rfl⟩ := (pa_cS (n := S) z (by omega)).resolve_left (fun q => hb (Or.inr (Or.inr q)))
  obtain ⟨e1, n, hn, e2⟩ := h.2.2.2.2.2.2.1 k s t hk (by omega) (by omega)
  refine ⟨fl (k * 40 + s * 8 + t), fun p hp => ?_, fun p hp => yw_inFlight k t s hk ht hT h1 hs hS (by rw [e1]; exact hp)⟩
  unfold wpX_inFlight
  refine xw_isMsg k t s hk ht hT h1 hs hS (br_f (by decide) ?_)
  rw [pa_fx, nI_clamp (show k * 40 + s * 8 + t < 2 ^ 31 by omega)]
  exact ⟨vp_in_nI (by omega) (by decide), hp⟩
theorem gt_value {S K T C : Nat} {u : SX} {v : SY} (I : pa_R S K T C u v) (x y : Int32) : pa_LG (fun p => wpX_value p u x y) (fun p => wpY_value p v x y) := by
  refine pa_el (P := fun u v => pa_LG (fun p => wpX_value p u x y) (fun p => wpY_value p v x y)) ?_ I
  intro up uY en me ye re ac rM wM sv sp sS ss cv fa fc de fl vo na rm wm sW ft h
  obtain ⟨⟨_, hS⟩, ⟨_, hK⟩, ⟨_, hT⟩, ⟨_, hC⟩⟩ := h.1
  by_cases hb : (x < 1 ∨ nI S < x) ∨ (y < 0 ∨ nI K ≤ y)
  · refine ⟨-1, fun p hp => ?_, fun p hp => ?_⟩
    · unfold wpX_value
      exact xb_Store (fun _ => br_t rfl hp) (fun a => br_f (by decide) (xb_Key (fun _ => br_t rfl hp) (fun b => absurd hb (fun q => q.elim a b))))
    · unfold wpY_value
      exact yb_Store (fun _ => br_f (by decide) hp) (fun a => br_t rfl (yb_Key (fun _ => br_f (by decide) hp) (fun b => absurd hb (fun q => q.elim a b))))
  obtain ⟨s, h1, hs, rfl⟩ := (pa_cS (n := S) x (by omega)).resolve_left (fun q => hb (Or.inl q))
  obtain ⟨k, hk, rfl⟩ := (pa_cT (n := K) y hK).resolve_left (fun q => hb (Or.inr q))
  refine ⟨cv (s * 8 + k), fun p hp => ?_, fun p hp => ?_⟩
  · unfold wpX_value
    refine xw_isStore s h1 hs hS (br_f (by decide) (xw_isKey k hk hK (br_f (by decide) ?_)))
    rw [pa_at, nI_clamp (show s * 8 + k < 2 ^ 31 by omega)]
    exact ⟨vp_in_nI (by omega) (by decide), hp⟩
  · unfold wpY_value
    refine yw_badStore s h1 hs hS (br_t rfl (yw_badKey k hk hK (br_t rfl (yw_at s k ?_))))
    rw [nI_clamp (show s * 8 + k < 2 ^ 31 by omega)]
    exact ⟨vp_in_nI (by omega) (by decide), hp⟩
theorem gt_free {S K T C : Nat} {u : SX} {v : SY} (I : pa_R S K T C u v) (x : Int32) : pa_LG (fun p => wpX_free p u x) (fun p => wpY_free p v x) := by
  refine pa_el (P := fun u v => pa_LG (fun p => wpX_free p u x) (fun p => wpY_free p v x)) ?_ I
  intro up uY en me ye re ac rM wM sv sp sS ss cv fa fc de fl vo na rm wm sW ft h
  obtain ⟨⟨_, hS⟩, ⟨_, hK⟩, ⟨_, hT⟩, ⟨_, hC⟩⟩ := h.1
  rcases pa_cT (n := T) x hT with hb | ⟨t, ht, rfl⟩
  · refine ⟨0, fun p hp => ?_, fun p hp => ?_⟩
    · unfold wpX_free
      exact xb_Tx (fun _ => br_t rfl hp) (fun a => absurd hb a)
    · unfold wpY_free
      exact yb_T (fun _ => br_f (by decide) hp) (fun a => absurd hb a)
  · obtain ⟨r, _, f1, f2⟩ := lk_free (sv := sv) (ss := ss) (cv := cv) (de := de) h t ht
    exact ⟨r, f1, f2⟩
end
section
/-! standing, staged, reading, unforcedAt -/
section
variable {S K T C : Nat} {up uY en me ye re ac rM wM sv sp sS ss cv fa fc de fl vo na rm wm sW ft : Nat → Int32}
theorem xs_40 {post : Int32 → Prop} (t s : Nat) (ht : t < 8) (hs : s < 5) (h : post (if sp t = 4 ∧ bt (sS t) s = true then 6 else 0)) : wX_standing_40 post (nI t) ((1 : Int32) <<< (nI s &&& 31)) (nI S) (nI K) (nI T) (nI C) up en me ye re ac rM wM sv sp sS ss cv fa fc de fl := by
  have i40 : vp_in (nI t) 40 := vp_in_nI (by omega) (by decide)
  unfold wX_standing_40
  rw [nI_clamp (show t < 2 ^ 31 by omega)]
  by_cases h4 : sp t = 4
  · by_cases hb : bt (sS t) s = true
    · rw [if_pos ⟨h4, hb⟩] at h
      exact ⟨i40, br_t h4 ⟨i40, br_f ((pa_and1 _ (by omega)).mpr hb) (br_f (by decide) h)⟩⟩
    · rw [if_neg (fun z => hb z.2)] at h
      exact ⟨i40, br_t h4 ⟨i40, br_t ((pa_and0 _ (by omega)).mpr (Bool.eq_false_iff.mpr hb)) (br_t rfl h)⟩⟩
  · rw [if_neg (fun z => h4 z.1)] at h
    exact ⟨i40, br_f h4 (br_t rfl h)⟩
theorem ys_53 {post : Int32 → Prop} (t s : Nat) (ht : t < 8) (hs : s < 5) (hn : sp t = 4 → na (s * 8 + t) = pa_b (bt (sS t) s)) (h : post (if sp t = 4 ∧ bt (sS t) s = true then 6 else 0)) : wY_standing_53 post (nI t) (nI s) (nI S) (nI K) (nI T) (nI C) uY en sp de vo na rm wm sv sW ss cv ft fa fc := by
  unfold wY_standing_53
  refine yw_at0 t ?_
  rw [nI_clamp (show t < 2 ^ 31 by omega)]
  refine ⟨vp_in_nI (by omega) (by decide), ?_⟩
  by_cases h4 : sp t = 4
  · refine br_t h4 (yw_at s t ?_)
    rw [nI_clamp (show s * 8 + t < 2 ^ 31 by omega), hn h4]
    refine ⟨vp_in_nI (by omega) (by decide), ?_⟩
    by_cases hb : bt (sS t) s = true
    · rw [if_pos ⟨h4, hb⟩] at h
      exact br_f (pa_b1.mpr hb) h
    · rw [if_neg (fun z => hb z.2)] at h
      exact br_t (pa_b0.mpr (Bool.eq_false_iff.mpr hb)) h
  · rw [if_neg (fun z => h4 z.1)] at h
    exact br_f h4 h
theorem xs_89 {post : Int32 → Prop} (c k : Nat) (hc : c < 40) (hk : k < 8) (h : post (if sp c = 3 ∧ bt (sS c) k = true then ss (c * 8 + k) else -7)) : wX_staged_89 post (nI k) (nI c) ((1 : Int32) <<< (nI k &&& 31)) (nI S) (nI K) (nI T) (nI C) up en me ye re ac rM wM sv sp sS ss cv fa fc de fl := by
  have i40 : vp_in (nI c) 40 := vp_in_nI hc (by decide)
  unfold wX_staged_89
  rw [pa_at, nI_clamp (show c < 2 ^ 31 by omega), nI_clamp (show c * 8 + k < 2 ^ 31 by omega)]
  by_cases h4 : sp c = 3
  · by_cases hb : bt (sS c) k = true
    · rw [if_pos ⟨h4, hb⟩] at h
      exact ⟨i40, br_t h4 ⟨i40, br_f ((pa_and1 _ (by omega)).mpr hb) ⟨vp_in_nI (by omega) (by decide), h⟩⟩⟩
    · rw [if_neg (fun z => hb z.2)] at h
      exact ⟨i40, br_t h4 ⟨i40, br_t ((pa_and0 _ (by omega)).mpr (Bool.eq_false_iff.mpr hb)) h⟩⟩
  · rw [if_neg (fun z => h4 z.1)] at h
    exact ⟨i40, br_f h4 h⟩
theorem ys_81 {post : Int32 → Prop} (t s k : Nat) (ht : t < 8) (hs : s < 5) (hk : k < 8) (hn : sp (s * 8 + t) = 3 → sW ((s * 8 + t) * 8 + k) = pa_b (bt (sS (s * 8 + t)) k)) (h : post (if sp (s * 8 + t) = 3 ∧ bt (sS (s * 8 + t)) k = true then ss ((s * 8 + t) * 8 + k) else -7)) : wY_staged_81 post (nI t) (nI s) (nI ((s * 8 + t) * 8 + k)) (nI S) (nI K) (nI T) (nI C) uY en sp de vo na rm wm sv sW ss cv ft fa fc := by
  have i3 : vp_in (nI ((s * 8 + t) * 8 + k)) 320 := vp_in_nI (by omega) (by decide)
  unfold wY_staged_81
  refine yw_at s t ?_
  rw [nI_clamp (show s * 8 + t < 2 ^ 31 by omega), nI_clamp (show (s * 8 + t) * 8 + k < 2 ^ 31 by omega)]
  refine ⟨vp_in_nI (by omega) (by decide), ?_⟩
  by_cases h4 : sp (s * 8 + t) = 3
  · rw [hn h4]
    by_cases hb : bt (sS (s * 8 + t)) k = true
    · rw [if_pos ⟨h4, hb⟩] at h
      exact br_t h4 ⟨i3, br_f (pa_b1.mpr hb) ⟨i3, h⟩⟩
    · rw [if_neg (fun z => hb z.2)] at h
      exact br_t h4 ⟨i3, br_t (pa_b0.mpr (Bool.eq_false_iff.mpr hb)) h⟩
  · rw [if_neg (fun z => h4 z.1)] at h
    exact br_f h4 h
end
theorem gt_standing {S K T C : Nat} {u : SX} {v : SY} (I : pa_R S K T C u v) (x y : Int32) : pa_LG (fun p => wpX_standing p u x y) (fun p => wpY_standing p v x y) := by
  refine pa_el (P := fun u v => pa_LG (fun p => wpX_standing p u x y) (fun p => wpY_standing p v x y)) ?_ I
  intro up uY en me ye re ac rM wM sv sp sS ss cv fa fc de fl vo na rm wm sW ft h
  obtain ⟨⟨_, hS⟩, ⟨_, hK⟩, ⟨_, hT⟩, ⟨_, hC⟩⟩ := h.1
  by_cases hb : (x < 0 ∨ nI T ≤ x) ∨ (y < 1 ∨ nI S < y)
  · refine ⟨-1, fun p hp => ?_, fun p hp => ?_⟩
    · unfold wpX_standing
      exact xb_Tx (fun _ => br_t rfl hp) (fun a => br_f (by decide) (xb_Store (fun _ => br_t rfl hp) (fun b => absurd hb (fun q => q.elim a b))))
    · unfold wpY_standing
      exact yb_T (fun _ => br_f (by decide) hp) (fun a => br_t rfl (yb_Store (fun _ => br_f (by decide) hp) (fun b => absurd hb (fun q => q.elim a b))))
  obtain ⟨t, ht, rfl⟩ := (pa_cT (n := T) x hT).resolve_left (fun q => hb (Or.inl q))
  obtain ⟨s, h1, hs, rfl⟩ := (pa_cS (n := S) y (by omega)).resolve_left (fun q => hb (Or.inr q))
  have ht8 : t < 8 := by omega
  have hs5 : s < 5 := by omega
  have i40 : vp_in (nI t) 40 := vp_in_nI (by omega) (by decide)
  have i8 : vp_in (nI t) 8 := vp_in_nI (by omega) (by decide)
  have cl : (nI t).toNatClampNeg = t := nI_clamp (by omega)
  have eu := h.2.1.1 0 (by omega)
  have hn : sp t = 4 → na (s * 8 + t) = pa_b (bt (sS t) s) := fun z => ((h.2.2.2.2.2.1.1 t ht8).2 z).2 s h1 hs
  by_cases hu : up 0 = 0
  · refine ⟨if sp t = 4 ∧ bt (sS t) s = true then 6 else 0, fun p hp => ?_, fun p hp => ?_⟩
    · unfold wpX_standing
      exact xw_isTx t ht hT (br_f (by decide) (xw_isStore s h1 hs hS (br_f (by decide) (nm_e (br_t hu (xs_40 t s ht8 hs5 hp))))))
    · unfold wpY_standing
      exact yw_badT t ht hT (br_t rfl (yw_badStore s h1 hs hS (br_t rfl (br_t (eu.trans hu) (ys_53 t s ht8 hs5 hn hp)))))
  have hu' : ¬ uY 0 = 0 := by rw [eu]; exact hu
  by_cases he : en t = 0
  · refine ⟨if sp t = 4 ∧ bt (sS t) s = true then 6 else 0, fun p hp => ?_, fun p hp => ?_⟩
    · unfold wpX_standing
      refine xw_isTx t ht hT (br_f (by decide) (xw_isStore s h1 hs hS (br_f (by decide) (nm_e (br_f hu ?_)))))
      rw [cl]
      exact ⟨i40, br_t he (xs_40 t s ht8 hs5 hp)⟩
    · unfold wpY_standing
      refine yw_badT t ht hT (br_t rfl (yw_badStore s h1 hs hS (br_t rfl (br_f hu' (yw_at0 t ?_)))))
      rw [cl]
      exact ⟨i40, br_t he (ys_53 t s ht8 hs5 hn hp)⟩
  have v := h.2.2.2.1 t ht8
  have ev : vo (s * 8 + t) = pa_VF (en t) (bt (me t) s) (bt (ye t) s) (bt (re t) s) (bt (ac t) s) := v1_at v h1 hs
  refine ⟨vo (s * 8 + t), fun p hp => ?_, fun p hp => ?_⟩
  · unfold wpX_standing
    refine xw_isTx t ht hT (br_f (by decide) (xw_isStore s h1 hs hS (br_f (by decide) (nm_e (br_f hu ?_)))))
    rw [cl]
    rw [ev] at hp
    unfold pa_VF at hp
    refine ⟨i40, br_f he ⟨i8, ?_⟩⟩
    by_cases hm : bt (me t) s = false
    · rw [if_pos hm] at hp
      exact br_t ((pa_and0 _ (by omega)).mpr hm) hp
    rw [if_neg hm] at hp
    refine br_f (fun z => hm ((pa_and0 _ (by omega)).mp z)) ⟨i40, ?_⟩
    by_cases h4 : en t = 4
    · rw [if_pos h4] at hp
      refine br_t h4 ⟨i8, ?_⟩
      by_cases ha : bt (ac t) s = true
      · rw [if_pos ha] at hp
        exact br_f ((pa_and1 _ (by omega)).mpr ha) hp
      · rw [if_neg ha] at hp
        exact br_t ((pa_and0 _ (by omega)).mpr (Bool.eq_false_iff.mpr ha)) hp
    rw [if_neg h4] at hp
    refine br_f h4 ⟨i8, ?_⟩
    by_cases hy : bt (ye t) s = true
    · rw [if_pos hy] at hp
      exact br_f ((pa_and1 _ (by omega)).mpr hy) hp
    rw [if_neg hy] at hp
    refine br_t ((pa_and0 _ (by omega)).mpr (Bool.eq_false_iff.mpr hy)) ⟨i8, ?_⟩
    by_cases hr : bt (re t) s = true
    · rw [if_pos hr] at hp
      exact br_f ((pa_and1 _ (by omega)).mpr hr) hp
    · rw [if_neg hr] at hp
      exact br_t ((pa_and0 _ (by omega)).mpr (Bool.eq_false_iff.mpr hr)) hp
  · unfold wpY_standing
    refine yw_badT t ht hT (br_t rfl (yw_badStore s h1 hs hS (br_t rfl (br_f hu' (yw_at0 t ?_)))))
    rw [cl]
    refine ⟨i40, br_f he (yw_at s t ?_)⟩
    rw [nI_clamp (show s * 8 + t < 2 ^ 31 by omega)]
    exact ⟨vp_in_nI (by omega) (by decide), hp⟩
theorem gt_staged {S K T C : Nat} {u : SX} {v : SY} (I : pa_R S K T C u v) (x y z : Int32) : pa_LG (fun p => wpX_staged p u x y z) (fun p => wpY_staged p v x y z) := by
  refine pa_el (P := fun u v => pa_LG (fun p => wpX_staged p u x y z) (fun p => wpY_staged p v x y z)) ?_ I
  intro up uY en me ye re ac rM wM sv sp sS ss cv fa fc de fl vo na rm wm sW ft h
  obtain ⟨⟨_, hS⟩, ⟨_, hK⟩, ⟨_, hT⟩, ⟨_, hC⟩⟩ := h.1
  by_cases hb : (x < 0 ∨ nI T ≤ x) ∨ (y < 1 ∨ nI S < y) ∨ (z < 0 ∨ nI K ≤ z)
  · refine ⟨-1, fun p hp => ?_, fun p hp => ?_⟩
    · unfold wpX_staged
      exact xb_Tx (fun _ => br_t rfl hp) (fun a => br_f (by decide) (xb_Store (fun _ => br_t rfl hp) (fun b => br_f (by decide) (xb_Key (fun _ => br_t rfl hp) (fun c => absurd hb (fun q => q.elim a (fun q => q.elim b c)))))))
    · unfold wpY_staged
      exact yb_T (fun _ => br_f (by decide) hp) (fun a => br_t rfl (yb_Store (fun _ => br_f (by decide) hp) (fun b => br_t rfl (yb_Key (fun _ => br_f (by decide) hp) (fun c => absurd hb (fun q => q.elim a (fun q => q.elim b c)))))))
  obtain ⟨t, ht, rfl⟩ := (pa_cT (n := T) x hT).resolve_left (fun q => hb (Or.inl q))
  obtain ⟨s, h1, hs, rfl⟩ := (pa_cS (n := S) y (by omega)).resolve_left (fun q => hb (Or.inr (Or.inl q)))
  obtain ⟨k, hk, rfl⟩ := (pa_cT (n := K) z hK).resolve_left (fun q => hb (Or.inr (Or.inr q)))
  have ht8 : t < 8 := by omega
  have hs5 : s < 5 := by omega
  have i5 : vp_in (nI s) 5 := vp_in_nI (by omega) (by decide)
  have i40 : vp_in (nI (s * 8 + t)) 40 := vp_in_nI (by omega) (by decide)
  have i3 : vp_in (nI ((s * 8 + t) * 8 + k)) 320 := vp_in_nI (by omega) (by decide)
  have cs : (nI s).toNatClampNeg = s := nI_clamp (by omega)
  have cl : (nI (s * 8 + t)).toNatClampNeg = s * 8 + t := nI_clamp (by omega)
  have c3 : (nI ((s * 8 + t) * 8 + k)).toNatClampNeg = (s * 8 + t) * 8 + k := nI_clamp (by omega)
  have eu := h.2.1.1 s hs
  have hn : sp (s * 8 + t) = 3 → sW ((s * 8 + t) * 8 + k) = pa_b (bt (sS (s * 8 + t)) k) := fun z => ((h.2.2.2.2.2.1.2 (s * 8 + t) (by omega) (by omega)).2 z).2 k hk
  by_cases hu : up s = 0
  · refine ⟨if sp (s * 8 + t) = 3 ∧ bt (sS (s * 8 + t)) k = true then ss ((s * 8 + t) * 8 + k) else -7, fun p hp => ?_, fun p hp => ?_⟩
    · unfold wpX_staged
      refine xw_isTx t ht hT (br_f (by decide) (xw_isStore s h1 hs hS (br_f (by decide) (xw_isKey k hk hK (br_f (by decide) (nm_r (pa_at s t) (nm_e ?_)))))))
      rw [cs]
      exact ⟨i5, br_t hu (xs_89 (s * 8 + t) k (by omega) (by omega) hp)⟩
    · unfold wpY_staged
      refine yw_badT t ht hT (br_t rfl (yw_badStore s h1 hs hS (br_t rfl (yw_badKey k hk hK (br_t rfl (yw_cell s t k ?_))))))
      rw [cs]
      exact ⟨i5, br_t (eu.trans hu) (ys_81 t s k ht8 hs5 (by omega) hn hp)⟩
  have hu' : ¬ uY s = 0 := by rw [eu]; exact hu
  by_cases he : en (s * 8 + t) = 0
  · refine ⟨if sp (s * 8 + t) = 3 ∧ bt (sS (s * 8 + t)) k = true then ss ((s * 8 + t) * 8 + k) else -7, fun p hp => ?_, fun p hp => ?_⟩
    · unfold wpX_staged
      refine xw_isTx t ht hT (br_f (by decide) (xw_isStore s h1 hs hS (br_f (by decide) (xw_isKey k hk hK (br_f (by decide) (nm_r (pa_at s t) (nm_e ?_)))))))
      rw [cs, cl]
      exact ⟨i5, br_f hu ⟨i40, br_t he (xs_89 (s * 8 + t) k (by omega) (by omega) hp)⟩⟩
    · unfold wpY_staged
      refine yw_badT t ht hT (br_t rfl (yw_badStore s h1 hs hS (br_t rfl (yw_badKey k hk hK (br_t rfl (yw_cell s t k ?_))))))
      rw [cs]
      refine ⟨i5, br_f hu' (yw_at s t ?_)⟩
      rw [cl]
      exact ⟨i40, br_t he (ys_81 t s k ht8 hs5 (by omega) hn hp)⟩
  have ew : wm ((s * 8 + t) * 8 + k) = pa_b (bt (wM (s * 8 + t)) k) := (h.2.2.2.2.1 (s * 8 + t) (by omega)).2.2.2.2 k hk
  refine ⟨if bt (wM (s * 8 + t)) k = true then sv ((s * 8 + t) * 8 + k) else -7, fun p hp => ?_, fun p hp => ?_⟩
  · unfold wpX_staged
    refine xw_isTx t ht hT (br_f (by decide) (xw_isStore s h1 hs hS (br_f (by decide) (xw_isKey k hk hK (br_f (by decide) (nm_r (pa_at s t) (nm_e ?_)))))))
    rw [pa_at, cs, cl, c3]
    refine ⟨i5, br_f hu ⟨i40, br_f he ⟨i40, ?_⟩⟩⟩
    by_cases hw : bt (wM (s * 8 + t)) k = true
    · rw [if_pos hw] at hp
      exact br_f ((pa_and1 _ (by omega)).mpr hw) ⟨i3, hp⟩
    · rw [if_neg hw] at hp
      exact br_t ((pa_and0 _ (by omega)).mpr (Bool.eq_false_iff.mpr hw)) hp
  · unfold wpY_staged
    refine yw_badT t ht hT (br_t rfl (yw_badStore s h1 hs hS (br_t rfl (yw_badKey k hk hK (br_t rfl (yw_cell s t k ?_))))))
    rw [cs, c3]
    refine ⟨i5, br_f hu' (yw_at s t ?_)⟩
    rw [cl, ew]
    refine ⟨i40, br_f he ⟨i3, ?_⟩⟩
    by_cases hw : bt (wM (s * 8 + t)) k = true
    · rw [if_pos hw] at hp
      exact br_f (pa_b1.mpr hw) ⟨i3, hp⟩
    · rw [if_neg hw] at hp
      exact br_t (pa_b0.mpr (Bool.eq_false_iff.mpr hw)) hp
theorem gt_reading {S K T C : Nat} {u : SX} {v : SY} (I : pa_R S K T C u v) (x y z : Int32) : pa_LG (fun p => wpX_reading p u x y z) (fun p => wpY_reading p v x y z) := by
  refine pa_el (P := fun u v => pa_LG (fun p => wpX_reading p u x y z) (fun p => wpY_reading p v x y z)) ?_ I
  intro up uY en me ye re ac rM wM sv sp sS ss cv fa fc de fl vo na rm wm sW ft h
  obtain ⟨⟨_, hS⟩, ⟨_, hK⟩, ⟨_, hT⟩, ⟨_, hC⟩⟩ := h.1
  by_cases hb : (x < 0 ∨ nI T ≤ x) ∨ (y < 1 ∨ nI S < y) ∨ (z < 0 ∨ nI K ≤ z)
  · refine ⟨0, fun p hp => ?_, fun p hp => ?_⟩
    · unfold wpX_reading
      exact xb_Tx (fun _ => br_t rfl hp) (fun a => br_f (by decide) (xb_Store (fun _ => br_t rfl hp) (fun b => br_f (by decide) (xb_Key (fun _ => br_t rfl hp) (fun c => absurd hb (fun q => q.elim a (fun q => q.elim b c)))))))
    · unfold wpY_reading
      exact yb_T (fun _ => br_f (by decide) hp) (fun a => br_t rfl (yb_Store (fun _ => br_f (by decide) hp) (fun b => br_t rfl (yb_Key (fun _ => br_f (by decide) hp) (fun c => absurd hb (fun q => q.elim a (fun q => q.elim b c)))))))
  obtain ⟨t, ht, rfl⟩ := (pa_cT (n := T) x hT).resolve_left (fun q => hb (Or.inl q))
  obtain ⟨s, h1, hs, rfl⟩ := (pa_cS (n := S) y (by omega)).resolve_left (fun q => hb (Or.inr (Or.inl q)))
  obtain ⟨k, hk, rfl⟩ := (pa_cT (n := K) z hK).resolve_left (fun q => hb (Or.inr (Or.inr q)))
  have i5 : vp_in (nI s) 5 := vp_in_nI (by omega) (by decide)
  have i40 : vp_in (nI (s * 8 + t)) 40 := vp_in_nI (by omega) (by decide)
  have i3 : vp_in (nI ((s * 8 + t) * 8 + k)) 320 := vp_in_nI (by omega) (by decide)
  have cs : (nI s).toNatClampNeg = s := nI_clamp (by omega)
  have cl : (nI (s * 8 + t)).toNatClampNeg = s * 8 + t := nI_clamp (by omega)
  have c3 : (nI ((s * 8 + t) * 8 + k)).toNatClampNeg = (s * 8 + t) * 8 + k := nI_clamp (by omega)
  have eu := h.2.1.1 s hs
  have er : rm ((s * 8 + t) * 8 + k) = pa_b (bt (rM (s * 8 + t)) k) := (h.2.2.2.2.1 (s * 8 + t) (by omega)).2.2.2.1 k hk
  refine ⟨if up s = 0 then 0 else if en (s * 8 + t) = 1 then pa_b (bt (rM (s * 8 + t)) k) else 0, fun p hp => ?_, fun p hp => ?_⟩
  · unfold wpX_reading
    refine xw_isTx t ht hT (br_f (by decide) (xw_isStore s h1 hs hS (br_f (by decide) (xw_isKey k hk hK (br_f (by decide) (nm_r (pa_at s t) ?_))))))
    rw [cs, cl]
    refine ⟨i5, br_c (fun a => ?_) (fun a => ⟨i40, br_c (fun b => ⟨i40, br_c (fun c => ?_) (fun c => ?_)⟩) (fun b => ?_)⟩)⟩
    · rw [if_pos a] at hp
      exact hp
    · rw [if_neg a, if_pos b, (pa_and0 _ (by omega)).mp c] at hp
      exact hp
    · rw [if_neg a, if_pos b, (pa_and1 _ (by omega)).mp c] at hp
      exact hp
    · rw [if_neg a, if_neg b] at hp
      exact hp
  · unfold wpY_reading
    refine yw_badT t ht hT (br_t rfl (yw_badStore s h1 hs hS (br_t rfl (yw_badKey k hk hK (br_t rfl ?_)))))
    rw [cs, eu]
    refine ⟨i5, br_c (fun a => ?_) (fun a => yw_at s t ?_)⟩
    · rw [if_pos a] at hp
      exact hp
    · rw [cl]
      refine ⟨i40, br_c (fun b => yw_cell s t k ?_) (fun b => ?_)⟩
      · rw [c3, er]
        rw [if_neg a, if_pos b] at hp
        refine ⟨i3, br_c (fun c => ?_) (fun c => ?_)⟩
        · rw [c] at hp
          exact hp
        · rw [pa_b1.mp c] at hp
          exact hp
      · rw [if_neg a, if_neg b] at hp
        exact hp
theorem gt_unforced {S K T C : Nat} {u : SX} {v : SY} (I : pa_R S K T C u v) (x y : Int32) : pa_LG (fun p => wpX_unforcedAt p u x y) (fun p => wpY_unforcedAt p v x y) := by
  refine pa_el (P := fun u v => pa_LG (fun p => wpX_unforcedAt p u x y) (fun p => wpY_unforcedAt p v x y)) ?_ I
  intro up uY en me ye re ac rM wM sv sp sS ss cv fa fc de fl vo na rm wm sW ft h
  obtain ⟨⟨_, hS⟩, ⟨_, hK⟩, ⟨_, hT⟩, ⟨_, hC⟩⟩ := h.1
  rcases pa_cI (n := S) x (by omega) with hb | ⟨s, hs, rfl⟩
  · refine ⟨-1, fun p hp => ?_, fun p hp => ?_⟩
    · unfold wpX_unforcedAt
      exact xb_Site (fun _ => br_t rfl hp) (fun a => absurd hb a)
    · unfold wpY_unforcedAt
      exact yb_Site (fun _ => br_f (by decide) hp) (fun a => absurd hb a)
  have i5 : vp_in (nI s) 5 := vp_in_nI (by omega) (by decide)
  have cs : (nI s).toNatClampNeg = s := nI_clamp (by omega)
  by_cases hy : 0 ≤ y
  rotate_left
  · refine ⟨-1, fun p hp => ?_, fun p hp => ?_⟩
    · unfold wpX_unforcedAt
      exact xw_isSite s hs hS (br_f (by decide) (br_f hy hp))
    · unfold wpY_unforcedAt
      exact yw_badSite s hs hS (br_t rfl (br_f hy hp))
  by_cases hl : y < fc s
  rotate_left
  · refine ⟨-7, fun p hp => ?_, fun p hp => ?_⟩
    · unfold wpX_unforcedAt
      refine xw_isSite s hs hS (br_f (by decide) (br_t hy ?_))
      rw [cs]
      exact ⟨i5, br_f hl hp⟩
    · unfold wpY_unforcedAt
      refine yw_badSite s hs hS (br_t rfl (br_t hy ?_))
      rw [cs]
      exact ⟨i5, br_f hl hp⟩
  obtain ⟨n, hn, en'⟩ := h.2.2.2.2.2.2.2.2 s (by omega)
  obtain ⟨i, hi, rfl⟩ := nI_of (x := y) (Int32.not_lt.mpr hy)
  have hi8 : i < 8 := by
    have hl' := hl
    rw [en', nI_ltI hi (by omega)] at hl'
    omega
  have i40 : vp_in (nI (s * 8 + i)) 40 := vp_in_nI (by omega) (by decide)
  have cl : (nI (s * 8 + i)).toNatClampNeg = s * 8 + i := nI_clamp (by omega)
  refine ⟨fa (s * 8 + i), fun p hp => ?_, fun p hp => ?_⟩
  · unfold wpX_unforcedAt
    refine xw_isSite s hs hS (br_f (by decide) (br_t hy ?_))
    rw [cs, pa_at, cl]
    exact ⟨i5, br_t hl ⟨i40, hp⟩⟩
  · unfold wpY_unforcedAt
    refine yw_badSite s hs hS (br_t rfl (br_t hy ?_))
    rw [cs, pa_at, cl]
    exact ⟨i5, br_t hl ⟨i40, hp⟩⟩
end
section
/-! the constructors -/
def pa_on (a : Nat → Int32) : Nat → (Nat → Int32)
  | 0 => a
  | n + 1 => upd (pa_on a n) n 1
theorem pa_on_eq (a : Nat → Int32) (n j : Nat) : pa_on a n j = if j < n then 1 else a j := by
  induction n with
  | zero => exact (if_neg (by omega)).symm
  | succ n ih =>
    show upd (pa_on a n) n 1 j = _
    by_cases h : j = n
    · rw [h, pk_us, if_pos (by omega)]
    · rw [pk_un h, ih]
      by_cases g : j < n
      · rw [if_pos g, if_pos (by omega)]
      · rw [if_neg g, if_neg (by omega)]
theorem pa_clmp (x : Int32) (n : Nat) (h1 : 1 ≤ n) (hn : n ≤ 8) : ∃ m, 1 ≤ m ∧ m ≤ n ∧ (∀ (post : Int32 → Prop) (u : SX), post (nI m) → wpX_clamp post u x 1 (nI n)) ∧ (∀ (post : Int32 → Prop) (v : SY), post (nI m) → wpY_clamp post v x (nI n)) := by
  by_cases hx : (1 : Int32) ≤ x
  rotate_left
  · refine ⟨1, by omega, h1, fun post u hp => ?_, fun post v hp => ?_⟩
    · obtain ⟨a1, a2, a3, a4, a5, a6, a7, a8, a9, a10, a11, a12, a13, a14, a15, a16, a17, a18, a19, a20, a21⟩ := u
      exact br_f hx hp
    · obtain ⟨b1, b2, b3, b4, b5, b6, b7, b8, b9, b10, b11, b12, b13, b14, b15, b16, b17, b18, b19⟩ := v
      exact br_f hx hp
  have h0 : ¬ x < 0 := fun z => absurd (Int32.lt_of_lt_of_le z (Int32.le_trans (show (0 : Int32) ≤ 1 by decide) hx)) (Int32.lt_irrefl)
  obtain ⟨j, hj, rfl⟩ := nI_of h0
  have hj1 : 1 ≤ j := (nI_leI (a := 1) (by omega) hj).mp hx
  by_cases hjn : j ≤ n
  · have hle : nI j ≤ nI n := nI_le hjn (by omega)
    refine ⟨j, hj1, hjn, fun post u hp => ?_, fun post v hp => ?_⟩
    · obtain ⟨a1, a2, a3, a4, a5, a6, a7, a8, a9, a10, a11, a12, a13, a14, a15, a16, a17, a18, a19, a20, a21⟩ := u
      exact br_t hx (br_t hle hp)
    · obtain ⟨b1, b2, b3, b4, b5, b6, b7, b8, b9, b10, b11, b12, b13, b14, b15, b16, b17, b18, b19⟩ := v
      exact br_t hx (br_t hle hp)
  · have hle : ¬ nI j ≤ nI n := nI_ge (by omega) hj
    refine ⟨n, h1, Nat.le_refl _, fun post u hp => ?_, fun post v hp => ?_⟩
    · obtain ⟨a1, a2, a3, a4, a5, a6, a7, a8, a9, a10, a11, a12, a13, a14, a15, a16, a17, a18, a19, a20, a21⟩ := u
      exact br_t hx (br_f hle hp)
    · obtain ⟨b1, b2, b3, b4, b5, b6, b7, b8, b9, b10, b11, b12, b13, b14, b15, b16, b17, b18, b19⟩ := v
      exact br_t hx (br_f hle hp)
section
variable {S K T C : Nat} {up uY en me ye re ac rM wM sv sp sS ss cv fa fc de fl vo na rm wm sW ft : Nat → Int32}
theorem xi_191 {post : SX → Prop} (hS : S ≤ 4) (h : post (nI S, nI K, nI T, nI C, pa_on up (S + 1), en, me, ye, re, ac, rM, wM, sv, sp, sS, ss, cv, fa, fc, de, fl)) :
    ∀ d i n : Nat, i + d = S + 1 → d < n → wX_init_191 post (nI S) (nI K) (nI T) (nI C) n (nI i) (pa_on up i) en me ye re ac rM wM sv sp sS ss cv fa fc de fl := by
  intro d
  induction d with
  | zero =>
    intro i n hi hn
    obtain ⟨n, rfl⟩ : ∃ q, n = q + 1 := ⟨n - 1, by omega⟩
    have e : i = S + 1 := by omega
    subst e
    exact br_t (nI_lt (by omega) (by omega)) h
  | succ d ih =>
    intro i n hi hn
    obtain ⟨n, rfl⟩ : ∃ q, n = q + 1 := ⟨n - 1, by omega⟩
    have key := ih (i + 1) n (by omega) (by omega)
    refine br_f (nI_nlt (by omega) (by omega)) ?_
    rw [nI_clamp (show i < 2 ^ 31 by omega), pa_nb1]
    exact ⟨vp_in_nI (by omega) (by decide), nm_e (nm_r (nI_1 _) key)⟩
theorem yi_174 {post : SY → Prop} (h : post (nI S, nI K, nI T, nI C, pa_on uY 5, en, sp, de, vo, na, rm, wm, sv, sW, ss, cv, ft, fa, fc)) :
    ∀ d i n : Nat, i + d = 5 → d < n → wY_init_174 post (nI S) (nI K) (nI T) (nI C) n (nI i) (pa_on uY i) en sp de vo na rm wm sv sW ss cv ft fa fc := by
  intro d
  induction d with
  | zero =>
    intro i n hi hn
    obtain ⟨n, rfl⟩ : ∃ q, n = q + 1 := ⟨n - 1, by omega⟩
    have e : i = 5 := by omega
    subst e
    exact br_t (by decide) h
  | succ d ih =>
    intro i n hi hn
    obtain ⟨n, rfl⟩ : ∃ q, n = q + 1 := ⟨n - 1, by omega⟩
    have key := ih (i + 1) n (by omega) (by omega)
    refine br_f (nI_ge (b := 5) (by omega) (by decide)) ?_
    rw [nI_clamp (show i < 2 ^ 31 by omega), pa_nb1]
    exact ⟨vp_in_nI (by omega) (by decide), nm_e (nm_r (nI_1 _) key)⟩
end
def pa_z : Nat → Int32 := fun _ => 0
theorem g_init {S K T C : Nat} (sz : pa_Sz S K T C) : pa_G S K T C (pa_on pa_z (S + 1)) (pa_on pa_z 5) pa_z pa_z pa_z pa_z pa_z pa_z pa_z pa_z pa_z pa_z pa_z pa_z pa_z pa_z pa_z pa_z pa_z pa_z := by
  have hS := sz.1.2
  refine ⟨sz, ⟨fun j hj => ?_, fun j t _ _ _ => rfl⟩, fun c _ _ => Or.inl rfl, fun t _ => v1_clear (fun s _ _ => rfl), fun c _ => ?_, ⟨fun t _ => ⟨Or.inl rfl, fun z => absurd (show (0 : Int32) = 4 from z) (by decide)⟩, fun c _ _ => ⟨Or.inl rfl, fun z => absurd (show (0 : Int32) = 3 from z) (by decide)⟩⟩, fun k s t _ _ _ => ⟨rfl, 0, by omega, rfl⟩, fun j _ => ⟨0, by omega, rfl⟩, fun j _ => ⟨0, by omega, rfl⟩⟩
  · rw [pa_on_eq, pa_on_eq, if_pos (by omega), if_pos (by omega)]
  · refine ⟨fun k hk => ?_, fun k hk => ?_, fun _ => ⟨rfl, rfl⟩, fun k _ => ?_, fun k _ => ?_⟩
    · exact absurd ((b_0 k).symm.trans hk) (by decide)
    · exact absurd ((b_0 k).symm.trans hk) (by decide)
    · show (0 : Int32) = pa_b (bt 0 k)
      rw [b_0]
      rfl
    · show (0 : Int32) = pa_b (bt 0 k)
      rw [b_0]
      rfl
end
section
/-! what is owed -/
def i_Rel (k : Nat) (u : SX) (v : SY) : Prop := ∃ S K T C : Nat, pa_R S K T C u v
theorem i_up {k : Nat} {u : SX} {v : SY} (h : i_Rel k u v) : i_Rel (k + 5) u v := h
theorem pa_sz {S K T C : Nat} {u : SX} {v : SY} (I : pa_R S K T C u v) : pa_Sz S K T C :=
  pa_el (P := fun _ _ => pa_Sz S K T C) (fun _ _ _ _ _ _ _ _ _ _ _ _ _ _ _ _ _ _ _ _ _ _ _ _ h => h.1) I
theorem pa_fin {S K T C k : Nat} {A : (Int32 → SX → Prop) → Prop} {B : (Int32 → SY → Prop) → Prop} (h : pa_LR S K T C A B) : A (fun r u' => B (fun r' v' => r' = r ∧ i_Rel k u' v')) := by
  obtain ⟨r, u', v', hR, hA, hB⟩ := h
  exact hA _ (hB _ ⟨rfl, S, K, T, C, hR⟩)
theorem pa_fing {P : Prop} {A : (Int32 → Prop) → Prop} {B : (Int32 → Prop) → Prop} (h : pa_LG A B) (hP : P) : A (fun r => B (fun r' => r' = r ∧ P)) := by
  obtain ⟨r, hA, hB⟩ := h
  exact hA _ (hB _ ⟨rfl, hP⟩)
theorem i_vc0 (k0 : Int32) (k1 : Int32) (k2 : Int32) (k3 : Int32) : wpX_init (fun u => wpY_init (fun v => i_Rel 4 u v) k0 k1 k2 k3) k0 k1 k2 k3 := by
  obtain ⟨S, s1, s2, sX, sY⟩ := pa_clmp k0 4 (by omega) (by omega)
  obtain ⟨K, t1, t2, tX, tY⟩ := pa_clmp k1 8 (by omega) (by omega)
  obtain ⟨T, r1, r2, rX, rY⟩ := pa_clmp k2 8 (by omega) (by omega)
  obtain ⟨C, c1, c2, cX, cY⟩ := pa_clmp k3 3 (by omega) (by omega)
  have G := g_init (S := S) (K := K) (T := T) (C := C) ⟨⟨s1, s2⟩, ⟨t1, t2⟩, ⟨r1, r2⟩, ⟨c1, c2⟩⟩
  refine sX _ _ (tX _ _ (rX _ _ (cX _ _ ⟨S + 2, xi_191 s2 ?_ (S + 1) 0 (S + 2) (by omega) (by omega)⟩)))
  refine sY _ _ (tY _ _ (rY _ _ (cY _ _ ⟨6, yi_174 ?_ 5 0 6 (by omega) (by omega)⟩)))
  exact ⟨S, K, T, C, pa_mk4 pa_z pa_z pa_z pa_z G⟩
theorem i_vc_begin {k : Nat} {u : SX} {v : SY} (I : i_Rel k u v) (hk : k + 5 ≤ 2564) : wpX_begin (fun r u' => wpY_begin (fun r' v' => r' = r ∧ i_Rel (k + 5) u' v') v) u := by
  obtain ⟨S, K, T, C, J⟩ := I
  exact pa_fin (lk_begin J)
theorem i_vc_read {k : Nat} {u : SX} {v : SY} (I : i_Rel k u v) (hk : k + 5 ≤ 2564) (v1 : Int32) (v2 : Int32) (v3 : Int32) : wpX_read (fun r u' => wpY_read (fun r' v' => r' = r ∧ i_Rel (k + 5) u' v') v v1 v2 v3) u v1 v2 v3 := by
  obtain ⟨S, K, T, C, J⟩ := I
  obtain ⟨⟨_, hS⟩, ⟨_, hK⟩, ⟨_, hT⟩, ⟨_, hC⟩⟩ := pa_sz J
  rcases pa_cT (n := T) v1 hT with h | ⟨t, ht, rfl⟩
  · exact pa_fin (bd_read J (Or.inl h))
  rcases pa_cS (n := S) v2 (by omega) with h | ⟨s, h1, hs, rfl⟩
  · exact pa_fin (bd_read J (Or.inr (Or.inl h)))
  rcases pa_cT (n := K) v3 hK with h | ⟨q, hq, rfl⟩
  · exact pa_fin (bd_read J (Or.inr (Or.inr h)))
  exact pa_fin (lk_read J t s q ht h1 hs hq)
theorem i_vc_write {k : Nat} {u : SX} {v : SY} (I : i_Rel k u v) (hk : k + 5 ≤ 2564) (v1 : Int32) (v2 : Int32) (v3 : Int32) (v4 : Int32) : wpX_write (fun r u' => wpY_write (fun r' v' => r' = r ∧ i_Rel (k + 5) u' v') v v1 v2 v3 v4) u v1 v2 v3 v4 := by
  obtain ⟨S, K, T, C, J⟩ := I
  obtain ⟨⟨_, hS⟩, ⟨_, hK⟩, ⟨_, hT⟩, ⟨_, hC⟩⟩ := pa_sz J
  by_cases hx : 0 ≤ v4
  rotate_left
  · exact pa_fin (bd_write J (Or.inl hx))
  rcases pa_cT (n := T) v1 hT with h | ⟨t, ht, rfl⟩
  · exact pa_fin (bd_write J (Or.inr (Or.inl h)))
  rcases pa_cS (n := S) v2 (by omega) with h | ⟨s, h1, hs, rfl⟩
  · exact pa_fin (bd_write J (Or.inr (Or.inr (Or.inl h))))
  rcases pa_cT (n := K) v3 hK with h | ⟨q, hq, rfl⟩
  · exact pa_fin (bd_write J (Or.inr (Or.inr (Or.inr h))))
  exact pa_fin (lk_write J t s q v4 hx ht h1 hs hq)
theorem i_vc_commit {k : Nat} {u : SX} {v : SY} (I : i_Rel k u v) (hk : k + 5 ≤ 2564) (v1 : Int32) : wpX_commit (fun r u' => wpY_commit (fun r' v' => r' = r ∧ i_Rel (k + 5) u' v') v v1) u v1 := by
  obtain ⟨S, K, T, C, J⟩ := I
  obtain ⟨⟨_, hS⟩, ⟨_, hK⟩, ⟨_, hT⟩, ⟨_, hC⟩⟩ := pa_sz J
  rcases pa_cT (n := T) v1 hT with h | ⟨t, ht, rfl⟩
  · exact pa_fin (bd_commit J h)
  exact pa_fin (lk_commit J t ht)
theorem i_vc_deliver {k : Nat} {u : SX} {v : SY} (I : i_Rel k u v) (hk : k + 5 ≤ 2564) (v1 : Int32) (v2 : Int32) (v3 : Int32) : wpX_deliver (fun r u' => wpY_deliver (fun r' v' => r' = r ∧ i_Rel (k + 5) u' v') v v1 v2 v3) u v1 v2 v3 := by
  obtain ⟨S, K, T, C, J⟩ := I
  obtain ⟨⟨_, hS⟩, ⟨_, hK⟩, ⟨_, hT⟩, ⟨_, hC⟩⟩ := pa_sz J
  rcases pa_cT (n := 8) v1 (by omega) with h | ⟨q, hq, rfl⟩
  · exact pa_fin (bd_deliver J (Or.inl h))
  rcases pa_cT (n := T) v2 hT with h | ⟨t, ht, rfl⟩
  · exact pa_fin (bd_deliver J (Or.inr (Or.inl h)))
  rcases pa_cS (n := S) v3 (by omega) with h | ⟨s, h1, hs, rfl⟩
  · exact pa_fin (bd_deliver J (Or.inr (Or.inr h)))
  exact pa_fin (lk_deliver J q s t hq h1 hs ht)
theorem i_vc_lose {k : Nat} {u : SX} {v : SY} (I : i_Rel k u v) (hk : k + 5 ≤ 2564) (v1 : Int32) (v2 : Int32) (v3 : Int32) : wpX_lose (fun r u' => wpY_lose (fun r' v' => r' = r ∧ i_Rel (k + 5) u' v') v v1 v2 v3) u v1 v2 v3 := by
  obtain ⟨S, K, T, C, J⟩ := I
  obtain ⟨⟨_, hS⟩, ⟨_, hK⟩, ⟨_, hT⟩, ⟨_, hC⟩⟩ := pa_sz J
  rcases pa_cT (n := 8) v1 (by omega) with h | ⟨q, hq, rfl⟩
  · exact pa_fin (bd_lose J (Or.inl h))
  rcases pa_cT (n := T) v2 hT with h | ⟨t, ht, rfl⟩
  · exact pa_fin (bd_lose J (Or.inr (Or.inl h)))
  rcases pa_cS (n := S) v3 (by omega) with h | ⟨s, h1, hs, rfl⟩
  · exact pa_fin (bd_lose J (Or.inr (Or.inr h)))
  exact pa_fin (lk_lose J q s t hq h1 hs ht)
theorem i_vc_duplicate {k : Nat} {u : SX} {v : SY} (I : i_Rel k u v) (hk : k + 5 ≤ 2564) (v1 : Int32) (v2 : Int32) (v3 : Int32) : wpX_duplicate (fun r u' => wpY_duplicate (fun r' v' => r' = r ∧ i_Rel (k + 5) u' v') v v1 v2 v3) u v1 v2 v3 := by
  obtain ⟨S, K, T, C, J⟩ := I
  obtain ⟨⟨_, hS⟩, ⟨_, hK⟩, ⟨_, hT⟩, ⟨_, hC⟩⟩ := pa_sz J
  rcases pa_cT (n := 8) v1 (by omega) with h | ⟨q, hq, rfl⟩
  · exact pa_fin (bd_dup J (Or.inl h))
  rcases pa_cT (n := T) v2 hT with h | ⟨t, ht, rfl⟩
  · exact pa_fin (bd_dup J (Or.inr (Or.inl h)))
  rcases pa_cS (n := S) v3 (by omega) with h | ⟨s, h1, hs, rfl⟩
  · exact pa_fin (bd_dup J (Or.inr (Or.inr h)))
  exact pa_fin (lk_dup J q s t hq h1 hs ht)
theorem i_vc_timeout {k : Nat} {u : SX} {v : SY} (I : i_Rel k u v) (hk : k + 5 ≤ 2564) (v1 : Int32) (v2 : Int32) : wpX_timeout (fun r u' => wpY_timeout (fun r' v' => r' = r ∧ i_Rel (k + 5) u' v') v v1 v2) u v1 v2 := by
  obtain ⟨S, K, T, C, J⟩ := I
  obtain ⟨⟨_, hS⟩, ⟨_, hK⟩, ⟨_, hT⟩, ⟨_, hC⟩⟩ := pa_sz J
  rcases pa_cI (n := S) v1 (by omega) with h | ⟨s, hs, rfl⟩
  · exact pa_fin (bd_timeout J (Or.inl h))
  rcases pa_cT (n := T) v2 hT with h | ⟨t, ht, rfl⟩
  · exact pa_fin (bd_timeout J (Or.inr h))
  exact pa_fin (lk_timeout J s t hs ht)
theorem i_vc_crash {k : Nat} {u : SX} {v : SY} (I : i_Rel k u v) (hk : k + 5 ≤ 2564) (v1 : Int32) (v2 : Int32) : wpX_crash (fun r u' => wpY_crash (fun r' v' => r' = r ∧ i_Rel (k + 5) u' v') v v1 v2) u v1 v2 := by
  obtain ⟨S, K, T, C, J⟩ := I
  obtain ⟨⟨_, hS⟩, ⟨_, hK⟩, ⟨_, hT⟩, ⟨_, hC⟩⟩ := pa_sz J
  rcases pa_cI (n := S) v1 (by omega) with h | ⟨s, hs, rfl⟩
  · exact pa_fin (bd_crash J h)
  exact pa_fin (lk_crash J s v2 hs)
theorem i_vc_restart {k : Nat} {u : SX} {v : SY} (I : i_Rel k u v) (hk : k + 5 ≤ 2564) (v1 : Int32) : wpX_restart (fun r u' => wpY_restart (fun r' v' => r' = r ∧ i_Rel (k + 5) u' v') v v1) u v1 := by
  obtain ⟨S, K, T, C, J⟩ := I
  obtain ⟨⟨_, hS⟩, ⟨_, hK⟩, ⟨_, hT⟩, ⟨_, hC⟩⟩ := pa_sz J
  rcases pa_cI (n := S) v1 (by omega) with h | ⟨s, hs, rfl⟩
  · exact pa_fin (bd_restart J h)
  exact pa_fin (lk_restart J s hs)
theorem i_vc_flush {k : Nat} {u : SX} {v : SY} (I : i_Rel k u v) (hk : k + 5 ≤ 2564) (v1 : Int32) : wpX_flush (fun r u' => wpY_flush (fun r' v' => r' = r ∧ i_Rel (k + 5) u' v') v v1) u v1 := by
  obtain ⟨S, K, T, C, J⟩ := I
  obtain ⟨⟨_, hS⟩, ⟨_, hK⟩, ⟨_, hT⟩, ⟨_, hC⟩⟩ := pa_sz J
  rcases pa_cI (n := S) v1 (by omega) with h | ⟨s, hs, rfl⟩
  · exact pa_fin (bd_flush J h)
  exact pa_fin (lk_flush J s hs)
theorem i_vc_settle {k : Nat} {u : SX} {v : SY} (I : i_Rel k u v) (hk : k + 5 ≤ 2564) : wpX_settle (fun r u' => wpY_settle (fun r' v' => r' = r ∧ i_Rel (k + 5) u' v') v) u := by
  obtain ⟨S, K, T, C, J⟩ := I
  exact pa_fin (lk_settle J)
theorem i_vc_state {k : Nat} {u : SX} {v : SY} (I : i_Rel k u v) (hk : k + 5 ≤ 2564) (v1 : Int32) (v2 : Int32) : wpX_state (fun r => wpY_state (fun r' => r' = r ∧ i_Rel (k + 5) u v) v v1 v2) u v1 v2 := by
  obtain ⟨S, K, T, C, J⟩ := I
  exact pa_fing (gt_state J v1 v2) ⟨S, K, T, C, J⟩
theorem i_vc_stable {k : Nat} {u : SX} {v : SY} (I : i_Rel k u v) (hk : k + 5 ≤ 2564) (v1 : Int32) (v2 : Int32) : wpX_stable (fun r => wpY_stable (fun r' => r' = r ∧ i_Rel (k + 5) u v) v v1 v2) u v1 v2 := by
  obtain ⟨S, K, T, C, J⟩ := I
  exact pa_fing (gt_stable J v1 v2) ⟨S, K, T, C, J⟩
theorem i_vc_decided {k : Nat} {u : SX} {v : SY} (I : i_Rel k u v) (hk : k + 5 ≤ 2564) (v1 : Int32) (v2 : Int32) : wpX_decided (fun r => wpY_decided (fun r' => r' = r ∧ i_Rel (k + 5) u v) v v1 v2) u v1 v2 := by
  obtain ⟨S, K, T, C, J⟩ := I
  exact pa_fing (gt_decided J v1 v2) ⟨S, K, T, C, J⟩
theorem i_vc_inFlight {k : Nat} {u : SX} {v : SY} (I : i_Rel k u v) (hk : k + 5 ≤ 2564) (v1 : Int32) (v2 : Int32) (v3 : Int32) : wpX_inFlight (fun r => wpY_inFlight (fun r' => r' = r ∧ i_Rel (k + 5) u v) v v1 v2 v3) u v1 v2 v3 := by
  obtain ⟨S, K, T, C, J⟩ := I
  exact pa_fing (gt_inFlight J v1 v2 v3) ⟨S, K, T, C, J⟩
theorem i_vc_standing {k : Nat} {u : SX} {v : SY} (I : i_Rel k u v) (hk : k + 5 ≤ 2564) (v1 : Int32) (v2 : Int32) : wpX_standing (fun r => wpY_standing (fun r' => r' = r ∧ i_Rel (k + 5) u v) v v1 v2) u v1 v2 := by
  obtain ⟨S, K, T, C, J⟩ := I
  exact pa_fing (gt_standing J v1 v2) ⟨S, K, T, C, J⟩
theorem i_vc_staged {k : Nat} {u : SX} {v : SY} (I : i_Rel k u v) (hk : k + 5 ≤ 2564) (v1 : Int32) (v2 : Int32) (v3 : Int32) : wpX_staged (fun r => wpY_staged (fun r' => r' = r ∧ i_Rel (k + 5) u v) v v1 v2 v3) u v1 v2 v3 := by
  obtain ⟨S, K, T, C, J⟩ := I
  exact pa_fing (gt_staged J v1 v2 v3) ⟨S, K, T, C, J⟩
theorem i_vc_reading {k : Nat} {u : SX} {v : SY} (I : i_Rel k u v) (hk : k + 5 ≤ 2564) (v1 : Int32) (v2 : Int32) (v3 : Int32) : wpX_reading (fun r => wpY_reading (fun r' => r' = r ∧ i_Rel (k + 5) u v) v v1 v2 v3) u v1 v2 v3 := by
  obtain ⟨S, K, T, C, J⟩ := I
  exact pa_fing (gt_reading J v1 v2 v3) ⟨S, K, T, C, J⟩
theorem i_vc_value {k : Nat} {u : SX} {v : SY} (I : i_Rel k u v) (hk : k + 5 ≤ 2564) (v1 : Int32) (v2 : Int32) : wpX_value (fun r => wpY_value (fun r' => r' = r ∧ i_Rel (k + 5) u v) v v1 v2) u v1 v2 := by
  obtain ⟨S, K, T, C, J⟩ := I
  exact pa_fing (gt_value J v1 v2) ⟨S, K, T, C, J⟩
theorem i_vc_unforcedAt {k : Nat} {u : SX} {v : SY} (I : i_Rel k u v) (hk : k + 5 ≤ 2564) (v1 : Int32) (v2 : Int32) : wpX_unforcedAt (fun r => wpY_unforcedAt (fun r' => r' = r ∧ i_Rel (k + 5) u v) v v1 v2) u v1 v2 := by
  obtain ⟨S, K, T, C, J⟩ := I
  exact pa_fing (gt_unforced J v1 v2) ⟨S, K, T, C, J⟩
theorem i_vc_free {k : Nat} {u : SX} {v : SY} (I : i_Rel k u v) (hk : k + 5 ≤ 2564) (v1 : Int32) : wpX_free (fun r => wpY_free (fun r' => r' = r ∧ i_Rel (k + 5) u v) v v1) u v1 := by
  obtain ⟨S, K, T, C, J⟩ := I
  exact pa_fing (gt_free J v1) ⟨S, K, T, C, J⟩
end
