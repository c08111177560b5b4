section
/-! rows pasted from kit/rows/PURE-ROWS (a starting text) -/
theorem pk_us {f : Nat → Int32} {k : Nat} {x : Int32} : upd f k x k = x := if_pos rfl
theorem pk_un {f : Nat → Int32} {k j : Nat} {x : Int32} (h : j ≠ k) : upd f k x j = f j := if_neg h
theorem pk_sub {a b : Nat} (h : b ≤ a) : nI a - nI b = nI (a - b) := by
  obtain ⟨c, rfl⟩ : ∃ c, a = c + b := ⟨a - b, by omega⟩
  rw [← nI_add, Int32.add_sub_cancel, Nat.add_sub_cancel]
theorem pk_m1 (n : Nat) : nI (n + 1) + (-1) = nI n := by
  rw [← nI_1, Int32.add_assoc, show (1 : Int32) + (-1) = 0 from rfl, Int32.add_zero]
theorem pk_mul (a b : Nat) : nI a * nI b = nI (a * b) := (Int32.ofNat_mul a b).symm
theorem pk_ix (x : Int32) {n : Nat} (hn : n < 2 ^ 31) : x < 0 ∨ nI n ≤ x ∨ ∃ j : Nat, j < n ∧ x = nI j := by
  by_cases h : x < 0
  · exact Or.inl h
  · obtain ⟨j, hj, rfl⟩ := nI_of h
    by_cases h2 : j < n
    · exact Or.inr (Or.inr ⟨j, h2, rfl⟩)
    · exact Or.inr (Or.inl (nI_le (by omega) hj))
theorem pk_le {x y : Int32} {A B : Prop} (a b : Nat) (f : a ≤ b → A) (g : b < a → B) (hx : x = nI a := by rfl) (hy : y = nI b := by rfl) (ha : a < 2 ^ 31 := by omega) (hb : b < 2 ^ 31 := by omega) : (x ≤ y → A) ∧ (¬ x ≤ y → B) := by
  subst hx hy
  rw [nI_leI ha hb]
  exact ⟨f, fun z => g (by omega)⟩
theorem pk_lt {x y : Int32} {A B : Prop} (a b : Nat) (f : a < b → A) (g : b ≤ a → B) (hx : x = nI a := by rfl) (hy : y = nI b := by rfl) (ha : a < 2 ^ 31 := by omega) (hb : b < 2 ^ 31 := by omega) : (x < y → A) ∧ (¬ x < y → B) := by
  subst hx hy
  rw [nI_ltI ha hb]
  exact ⟨f, fun z => g (by omega)⟩
theorem pk_eq {x y : Int32} {A B : Prop} (a b : Nat) (f : a = b → A) (g : a ≠ b → B) (hx : x = nI a := by rfl) (hy : y = nI b := by rfl) (ha : a < 2 ^ 31 := by omega) (hb : b < 2 ^ 31 := by omega) : (x = y → A) ∧ (¬ x = y → B) := by
  subst hx hy
  rw [nI_eq ha hb]
  exact ⟨f, g⟩
theorem pk_in {x : Int32} (n N : Nat) (h : n < N) (hx : x = nI n := by rfl) (hN : N < 2 ^ 31 := by omega) : vp_in x N := by
  subst hx
  exact vp_in_nI h hN
theorem pk_cl {x : Int32} (n : Nat) (hx : x = nI n := by rfl) (h : n < 2 ^ 31 := by omega) : x.toNatClampNeg = n := by
  subst hx
  exact nI_clamp h
theorem pk_tn {n : Nat} (h : n < 2 ^ 32) : (nI n).toBitVec.toNat = n := Nat.mod_eq_of_lt h
theorem pk_and (x : Int32) {m : Int32} (k : Nat) (hm : m.toBitVec.toNat = 2 ^ k - 1) : x &&& m = nI (x.toBitVec.toNat % 2 ^ k) := by
  apply Int32.toBitVec_inj.mp
  apply BitVec.eq_of_toNat_eq
  rw [Int32.toBitVec_and, BitVec.toNat_and, hm, Nat.and_two_pow_sub_one_eq_mod]
  show _ = (BitVec.ofNat 32 _).toNat
  rw [BitVec.toNat_ofNat]
  exact (Nat.mod_eq_of_lt (Nat.lt_of_le_of_lt (Nat.mod_le _ _) x.toBitVec.isLt)).symm
theorem pk_andN {n : Nat} (h : n < 2 ^ 32) {m : Int32} (k : Nat) (hm : m.toBitVec.toNat = 2 ^ k - 1) : nI n &&& m = nI (n % 2 ^ k) := by
  rw [pk_and _ k hm, pk_tn h]
theorem pk_shr (a s : Int32) (k : Nat) (hs : (s.toBitVec.smod 32).toNat = k) : (a >>> s).toInt = a.toInt >>> k := by
  show (a.toBitVec.sshiftRight (s.toBitVec.smod 32).toNat).toInt = _
  rw [hs, BitVec.toInt_sshiftRight]
  rfl
theorem pk_shrN {n : Nat} (h : n < 2 ^ 31) (s : Int32) (k : Nat) (hs : (s.toBitVec.smod 32).toNat = k) : nI n >>> s = nI (n / 2 ^ k) := by
  apply Int32.toInt_inj.mp
  have h2 : n / 2 ^ k ≤ n := Nat.div_le_self _ _
  rw [pk_shr _ _ k hs, nI_toInt h, nI_toInt (by omega), Int.shiftRight_eq_div_pow]
  rfl
theorem pk_vb (z : Int32) : vp_nar .byte z.toInt8.toInt32 = z.toInt8.toInt32 := by rw [vp_nar_byte]; simp
end
section
/-! the pure side: trees, their prefix notation, what a role reads off -/
abbrev rs_T : Type := Lean.RArray Unit
abbrev rs_E : rs_T := Lean.RArray.leaf ()
abbrev rs_N (t : Nat) (a b : rs_T) : rs_T := Lean.RArray.branch t a b
def rs_s (t : Nat) : Nat := (t - 1) % 4
def rs_r (t : Nat) : Nat := (t - 1) / 4 % 4
def rs_ar (t : Nat) : Nat := if t = 0 then 0 else if t ≤ 16 then 1 else 2
def rs_tok (t : Nat) : Prop := t ≤ 32 ∧ (0 < t → rs_s t ≠ rs_r t)
theorem rs_s4 (t : Nat) : rs_s t < 4 := Nat.mod_lt _ (by decide)
theorem rs_r4 (t : Nat) : rs_r t < 4 := Nat.mod_lt _ (by decide)
theorem rs_ar0 : rs_ar 0 = 0 := rfl
theorem rs_ar1 {t : Nat} (h0 : 0 < t) (h : t ≤ 16) : rs_ar t = 1 := by
  unfold rs_ar; rw [if_neg (by omega), if_pos h]
theorem rs_ar2 {t : Nat} (h : 16 < t) : rs_ar t = 2 := by
  unfold rs_ar; rw [if_neg (by omega), if_neg (by omega)]
def rs_sr (h : Nat) : rs_T → List Nat
  | .leaf _ => [0]
  | .branch t a b => t :: (rs_sr h a ++ if t ≤ h then [] else rs_sr h b)
theorem rs_sr1 {h t : Nat} (a b : rs_T) (ht : t ≤ h) : rs_sr h (rs_N t a b) = t :: rs_sr h a := by
  show t :: (rs_sr h a ++ if t ≤ h then [] else rs_sr h b) = _
  rw [if_pos ht, List.append_nil]
theorem rs_sr2 {h t : Nat} (a b : rs_T) (ht : h < t) : rs_sr h (rs_N t a b) = t :: (rs_sr h a ++ rs_sr h b) := by
  show t :: (rs_sr h a ++ if t ≤ h then [] else rs_sr h b) = _
  rw [if_neg (by omega)]
theorem rs_len1 (h : Nat) (g : rs_T) : 1 ≤ (rs_sr h g).length := by
  cases g with
  | leaf u => exact Nat.le_refl 1
  | branch t a b => exact Nat.succ_le_succ (Nat.zero_le _)
theorem rs_lenE (h : Nat) : (rs_sr h rs_E).length = 1 := rfl
theorem rs_lenN1 {h t : Nat} (a b : rs_T) (ht : t ≤ h) : (rs_sr h (rs_N t a b)).length = (rs_sr h a).length + 1 := by
  rw [rs_sr1 a b ht]; rfl
theorem rs_lenN2 {h t : Nat} (a b : rs_T) (ht : h < t) : (rs_sr h (rs_N t a b)).length = (rs_sr h a).length + (rs_sr h b).length + 1 := by
  rw [rs_sr2 a b ht, List.length_cons, List.length_append]
def rs_W (h : Nat) : rs_T → Prop
  | .leaf _ => True
  | .branch t a b => 0 < t ∧ t ≤ 2 * h ∧ rs_W h a ∧ rs_W h b ∧ (t ≤ h → b = rs_E)
def rs_G : rs_T → Prop
  | .leaf _ => True
  | .branch t a b => 0 < t ∧ t ≤ 32 ∧ rs_s t ≠ rs_r t ∧ rs_G a ∧ rs_G b ∧ (t ≤ 16 → b = rs_E)
theorem rs_G_W (g : rs_T) (hg : rs_G g) : rs_W 16 g := by
  induction g with
  | leaf u => exact trivial
  | branch t a b ia ib =>
    obtain ⟨h0, h1, h2, h3, h4, h5⟩ := hg
    exact And.intro h0 ⟨h1, ia h3, ib h4, h5⟩
theorem rs_inj (h : Nat) : ∀ a : rs_T, rs_W h a → ∀ b : rs_T, rs_W h b → ∀ x y : List Nat, rs_sr h a ++ x = rs_sr h b ++ y → a = b ∧ x = y := by
  intro a
  induction a with
  | leaf u =>
    intro _ b hb x y e
    cases b with
    | leaf w => exact ⟨rfl, (List.cons.inj e).2⟩
    | branch t c d =>
      obtain ⟨h0, _⟩ := hb
      have := (List.cons.inj e).1
      omega
  | branch t a1 a2 ih1 ih2 =>
    intro ha b hb x y e
    cases b with
    | leaf w =>
      obtain ⟨h0, _⟩ := ha
      have := (List.cons.inj e).1
      omega
    | branch t' c d =>
      obtain ⟨p0, p1, pa, pb, pe⟩ := ha
      obtain ⟨q0, q1, qa, qb, qe⟩ := hb
      have e0 : t = t' := (List.cons.inj e).1
      subst e0
      by_cases ht : t ≤ h
      · rw [rs_sr1 a1 a2 ht, rs_sr1 c d ht] at e
        obtain ⟨e1, e2⟩ := ih1 pa c qa x y (List.cons.inj e).2
        rw [e1, pe ht, qe ht]
        exact ⟨rfl, e2⟩
      · rw [rs_sr2 a1 a2 (by omega), rs_sr2 c d (by omega)] at e
        have e' : rs_sr h a1 ++ (rs_sr h a2 ++ x) = rs_sr h c ++ (rs_sr h d ++ y) := by
          have := (List.cons.inj e).2
          simpa using this
        obtain ⟨e1, e2⟩ := ih1 pa c qa _ _ e'
        obtain ⟨e3, e4⟩ := ih2 pb d qb _ _ e2
        rw [e1, e3]
        exact ⟨rfl, e4⟩
theorem rs_inj0 {h : Nat} {a b : rs_T} (ha : rs_W h a) (hb : rs_W h b) (e : rs_sr h a = rs_sr h b) : a = b :=
  (rs_inj h a ha b hb [] [] (by rw [e])).1
theorem rs_mem (h : Nat) (g : rs_T) : rs_W h g → ∀ e, e ∈ rs_sr h g → e ≤ 2 * h := by
  induction g with
  | leaf u =>
    intro _ e he
    have : e = 0 := List.mem_singleton.mp he
    omega
  | branch t a b ia ib =>
    intro hw e he
    obtain ⟨p0, p1, pa, pb, pe⟩ := hw
    by_cases ht : t ≤ h
    · rw [rs_sr1 a b ht] at he
      rcases List.mem_cons.mp he with h1 | h1
      · omega
      · exact ia pa e h1
    · rw [rs_sr2 a b (by omega)] at he
      rcases List.mem_cons.mp he with h1 | h1
      · omega
      · rcases List.mem_append.mp h1 with h2 | h2
        · exact ia pa e h2
        · exact ib pb e h2
/-! tokens of a part -/
def rs_v (x t : Nat) : Nat := (if rs_s t = x then 1 + rs_r t else 5 + rs_s t) + (if t ≤ 16 then 0 else 8)
def rs_du (v : Nat) : Nat := if v ≤ 8 then v else v - 8
def rs_lb (v : Nat) : Nat := if v = 0 then 0 else if v ≤ 8 then 1 else 2
theorem rs_v_in (x t : Nat) : 0 < rs_v x t ∧ rs_v x t ≤ 16 := by
  have h1 := rs_s4 t
  have h2 := rs_r4 t
  unfold rs_v
  split <;> split <;> omega
theorem rs_v_8 (x t : Nat) : rs_v x t ≤ 8 ↔ t ≤ 16 := by
  have h1 := rs_s4 t
  have h2 := rs_r4 t
  unfold rs_v
  split <;> split <;> omega
theorem rs_du_v (x t : Nat) : rs_du (rs_v x t) = if rs_s t = x then 1 + rs_r t else 5 + rs_s t := by
  have h1 := rs_s4 t
  have h2 := rs_r4 t
  unfold rs_du rs_v
  split <;> split <;> split <;> omega
theorem rs_lb_v (x : Nat) {t : Nat} (h : 0 < t) : rs_lb (rs_v x t) = rs_ar t := by
  have h1 := rs_v_in x t
  have h2 := rs_v_8 x t
  unfold rs_lb
  by_cases ht : t ≤ 16
  · rw [rs_ar1 h ht, if_neg (by omega), if_pos (by omega)]
  · rw [rs_ar2 (by omega), if_neg (by omega), if_neg (by omega)]
theorem rs_dl {v w : Nat} (h1 : 0 < v) (h2 : v ≤ 16) (h3 : 0 < w) (h4 : w ≤ 16) (e : rs_du v = rs_du w) (f : rs_lb v = rs_lb w) : v = w := by
  unfold rs_du at e
  unfold rs_lb at f
  have v0 : ¬ v = 0 := by omega
  have w0 : ¬ w = 0 := by omega
  by_cases a : v ≤ 8 <;> by_cases b : w ≤ 8 <;> simp only [a, b, v0, w0, if_true, if_false] at e f <;> omega
theorem rs_du_in {v : Nat} (h1 : 0 < v) (h2 : v ≤ 16) : 0 < rs_du v ∧ rs_du v ≤ 8 := by
  unfold rs_du
  split <;> omega
theorem rs_lb_in (v : Nat) : rs_lb v ≤ 2 := by
  unfold rs_lb
  split
  · omega
  · split <;> omega
/-! what role x reads off a plan; whether all its merges agree -/
def rs_lr (x : Nat) : rs_T → rs_T
  | .leaf _ => rs_E
  | .branch t a b => if rs_s t = x ∨ rs_r t = x then rs_N (rs_v x t) (rs_lr x a) (rs_lr x b) else if t ≤ 16 then rs_lr x a else rs_lr x b
def rs_ok (x : Nat) : rs_T → Prop
  | .leaf _ => True
  | .branch t a b => rs_ok x a ∧ rs_ok x b ∧ (rs_s t = x ∨ rs_r t = x ∨ t ≤ 16 ∨ rs_lr x a = rs_lr x b)
theorem rs_lr_m {x t : Nat} (a b : rs_T) (h : rs_s t = x ∨ rs_r t = x) : rs_lr x (rs_N t a b) = rs_N (rs_v x t) (rs_lr x a) (rs_lr x b) := if_pos h
theorem rs_lr_1 {x t : Nat} (a b : rs_T) (h : ¬ (rs_s t = x ∨ rs_r t = x)) (ht : t ≤ 16) : rs_lr x (rs_N t a b) = rs_lr x a := (if_neg h).trans (if_pos ht)
theorem rs_lr_2 {x t : Nat} (a b : rs_T) (h : ¬ (rs_s t = x ∨ rs_r t = x)) (ht : ¬ t ≤ 16) : rs_lr x (rs_N t a b) = rs_lr x b := (if_neg h).trans (if_neg ht)
theorem rs_lr_W (x : Nat) (g : rs_T) (hg : rs_G g) : rs_W 8 (rs_lr x g) := by
  induction g with
  | leaf u => exact trivial
  | branch t a b ia ib =>
    obtain ⟨h0, h1, h2, h3, h4, h5⟩ := hg
    by_cases hm : rs_s t = x ∨ rs_r t = x
    · rw [show Lean.RArray.branch t a b = rs_N t a b from rfl, rs_lr_m a b hm]
      refine And.intro (rs_v_in x t).1 ⟨(rs_v_in x t).2, ia h3, ib h4, fun h8 => ?_⟩
      rw [h5 ((rs_v_8 x t).mp h8)]
      rfl
    · by_cases ht : t ≤ 16
      · rw [show Lean.RArray.branch t a b = rs_N t a b from rfl, rs_lr_1 a b hm ht]
        exact ia h3
      · rw [show Lean.RArray.branch t a b = rs_N t a b from rfl, rs_lr_2 a b hm ht]
        exact ib h4
theorem rs_lr_len (x : Nat) (g : rs_T) (hg : rs_G g) : (rs_sr 8 (rs_lr x g)).length ≤ (rs_sr 16 g).length := by
  induction g with
  | leaf u => exact Nat.le_refl 1
  | branch t a b ia ib =>
    obtain ⟨h0, h1, h2, h3, h4, h5⟩ := hg
    have ja := ia h3
    have jb := ib h4
    have hv := rs_v_8 x t
    show (rs_sr 8 (rs_lr x (rs_N t a b))).length ≤ (rs_sr 16 (rs_N t a b)).length
    by_cases ht : t ≤ 16
    · rw [rs_lenN1 a b ht]
      by_cases hm : rs_s t = x ∨ rs_r t = x
      · rw [rs_lr_m a b hm, rs_lenN1 _ _ (by omega)]
        omega
      · rw [rs_lr_1 a b hm ht]
        omega
    · rw [rs_lenN2 a b (by omega)]
      by_cases hm : rs_s t = x ∨ rs_r t = x
      · rw [rs_lr_m a b hm, rs_lenN2 _ _ (by omega)]
        omega
      · rw [rs_lr_2 a b hm ht]
        omega
def rs_sz : rs_T → Nat
  | .leaf _ => 0
  | .branch _ a b => 1 + rs_sz a + rs_sz b
def rs_cp : List Nat → Nat
  | [] => 0
  | t :: l => (if t = 0 then 0 else 1) + rs_cp l
theorem rs_cp_app (l m : List Nat) : rs_cp (l ++ m) = rs_cp l + rs_cp m := by
  induction l with
  | nil => exact (Nat.zero_add _).symm
  | cons t l ih =>
    show (if t = 0 then 0 else 1) + rs_cp (l ++ m) = (if t = 0 then 0 else 1) + rs_cp l + rs_cp m
    rw [ih, Nat.add_assoc]
theorem rs_cp_sr (h : Nat) (g : rs_T) (hg : rs_W h g) : rs_cp (rs_sr h g) = rs_sz g := by
  induction g with
  | leaf u => rfl
  | branch t a b ia ib =>
    obtain ⟨p0, p1, pa, pb, pe⟩ := hg
    show rs_cp (rs_sr h (rs_N t a b)) = 1 + rs_sz a + rs_sz b
    by_cases ht : t ≤ h
    · rw [rs_sr1 a b ht, pe ht]
      show (if t = 0 then 0 else 1) + rs_cp (rs_sr h a) = 1 + rs_sz a + 0
      rw [if_neg (by omega), ia pa]
      omega
    · rw [rs_sr2 a b (by omega)]
      show (if t = 0 then 0 else 1) + rs_cp (rs_sr h a ++ rs_sr h b) = 1 + rs_sz a + rs_sz b
      rw [if_neg (by omega), rs_cp_app, ia pa, ib pb]
      omega
def rs_hd : rs_T → Nat
  | .leaf _ => 0
  | .branch v _ _ => v
def rs_ch (l : Nat) : rs_T → rs_T
  | .leaf _ => rs_E
  | .branch _ a b => if l = 0 then a else b
theorem rs_sr_hd (h : Nat) (g : rs_T) : ∃ l, rs_sr h g = rs_hd g :: l := by
  cases g with
  | leaf u => exact ⟨[], rfl⟩
  | branch t a b => exact ⟨_, rfl⟩
/-! the pending count -/
def rs_nd : Nat → List Nat → Nat
  | k, [] => k
  | k, t :: l => rs_nd (k - 1 + rs_ar t) l
def rs_vd : Nat → List Nat → Prop
  | _, [] => True
  | k, t :: l => 0 < k ∧ rs_vd (k - 1 + rs_ar t) l
theorem rs_vd_app (l m : List Nat) : ∀ k, rs_vd k (l ++ m) ↔ rs_vd k l ∧ rs_vd (rs_nd k l) m := by
  induction l with
  | nil => exact fun k => ⟨fun h => ⟨trivial, h⟩, fun h => h.2⟩
  | cons t l ih =>
    intro k
    show (0 < k ∧ rs_vd (k - 1 + rs_ar t) (l ++ m)) ↔ (0 < k ∧ rs_vd (k - 1 + rs_ar t) l) ∧ rs_vd (rs_nd (k - 1 + rs_ar t) l) m
    rw [ih]
    exact and_assoc.symm
theorem rs_ar_le (t : Nat) : rs_ar t ≤ 2 := by
  unfold rs_ar
  split
  · omega
  · split <;> omega
theorem rs_nd_le (l : List Nat) : ∀ k, rs_nd k l ≤ k + 2 * l.length := by
  induction l with
  | nil => exact fun k => Nat.le_refl k
  | cons t l ih =>
    intro k
    have h1 := ih (k - 1 + rs_ar t)
    have h2 := rs_ar_le t
    show rs_nd (k - 1 + rs_ar t) l ≤ k + 2 * (l.length + 1)
    omega
def rs_fs (F : List rs_T) : List Nat := F.flatMap (rs_sr 16)
theorem rs_parse (l : List Nat) : ∀ k, rs_vd k l → rs_nd k l = 0 → (∀ t, t ∈ l → rs_tok t) → ∃ F : List rs_T, F.length = k ∧ (∀ g, g ∈ F → rs_G g) ∧ l = rs_fs F := by
  induction l with
  | nil =>
    intro k _ h _
    have hk : k = 0 := h
    exact ⟨[], hk.symm, (fun g hg => nomatch hg), rfl⟩
  | cons t l ih =>
    intro k hv hn ht
    obtain ⟨hk, hv⟩ := hv
    obtain ⟨F, hF, hG, rfl⟩ := ih (k - 1 + rs_ar t) hv hn (fun e he => ht e (List.mem_cons_of_mem _ he))
    have h0 : rs_tok t := ht t List.mem_cons_self
    by_cases z : t = 0
    · subst z
      rw [rs_ar0] at hF
      refine ⟨rs_E :: F, ?_, ?_, rfl⟩
      · show F.length + 1 = k
        omega
      · intro g hg
        rcases List.mem_cons.mp hg with h | h
        · rw [h]; exact trivial
        · exact hG g h
    · by_cases h16 : t ≤ 16
      · rw [rs_ar1 (by omega) h16] at hF
        cases F with
        | nil => exact absurd hF (by show ¬ 0 = _; omega)
        | cons a F =>
          have hF' : F.length + 1 = k - 1 + 1 := hF
          refine ⟨rs_N t a rs_E :: F, ?_, ?_, ?_⟩
          · show F.length + 1 = k
            omega
          · intro g hg
            rcases List.mem_cons.mp hg with h | h
            · rw [h]
              exact And.intro (by omega) ⟨h0.1, h0.2 (by omega), hG a List.mem_cons_self, trivial, fun _ => rfl⟩
            · exact hG g (List.mem_cons_of_mem _ h)
          · show t :: (rs_sr 16 a ++ rs_fs F) = rs_sr 16 (rs_N t a rs_E) ++ rs_fs F
            rw [rs_sr1 a rs_E h16]
            rfl
      · rw [rs_ar2 (by omega)] at hF
        cases F with
        | nil => exact absurd hF (by show ¬ 0 = _; omega)
        | cons a F =>
          cases F with
          | nil => exact absurd hF (by show ¬ 1 = _; omega)
          | cons b F =>
            have hF' : F.length + 1 + 1 = k - 1 + 2 := hF
            refine ⟨rs_N t a b :: F, ?_, ?_, ?_⟩
            · show F.length + 1 = k
              omega
            · intro g hg
              rcases List.mem_cons.mp hg with h | h
              · rw [h]
                exact And.intro (by omega) ⟨h0.1, h0.2 (by omega), hG a List.mem_cons_self, hG b (List.mem_cons_of_mem _ List.mem_cons_self), fun h => absurd h h16⟩
              · exact hG g (List.mem_cons_of_mem _ (List.mem_cons_of_mem _ h))
            · show t :: (rs_sr 16 a ++ (rs_sr 16 b ++ rs_fs F)) = rs_sr 16 (rs_N t a b) ++ rs_fs F
              rw [rs_sr2 a b (by omega)]
              simp
theorem rs_parse1 {l : List Nat} (hv : rs_vd 1 l) (hn : rs_nd 1 l = 0) (ht : ∀ t, t ∈ l → rs_tok t) : ∃ g, rs_G g ∧ l = rs_sr 16 g := by
  obtain ⟨F, hF, hG, e⟩ := rs_parse l 1 hv hn ht
  cases F with
  | nil => exact nomatch hF
  | cons g F =>
    cases F with
    | nil =>
      refine ⟨g, hG g List.mem_cons_self, ?_⟩
      rw [e]
      show rs_sr 16 g ++ [] = _
      rw [List.append_nil]
    | cons b F => exact nomatch hF
end
section
/-! a list held by an array from a place on -/
def rs_sg (a : Nat → Int32) : Nat → List Nat → Prop
  | _, [] => True
  | o, t :: l => a o = nI t ∧ rs_sg a (o + 1) l
theorem rs_sg_app (a : Nat → Int32) (l m : List Nat) : ∀ o, rs_sg a o (l ++ m) ↔ rs_sg a o l ∧ rs_sg a (o + l.length) m := by
  induction l with
  | nil => exact fun o => ⟨fun h => ⟨trivial, h⟩, fun h => h.2⟩
  | cons t l ih =>
    intro o
    show (a o = nI t ∧ rs_sg a (o + 1) (l ++ m)) ↔ (a o = nI t ∧ rs_sg a (o + 1) l) ∧ rs_sg a (o + (l.length + 1)) m
    rw [ih, show o + 1 + l.length = o + (l.length + 1) by omega]
    exact and_assoc.symm
theorem rs_sg_cg {a b : Nat → Int32} (l : List Nat) : ∀ o, (∀ j, o ≤ j → j < o + l.length → b j = a j) → rs_sg a o l → rs_sg b o l := by
  induction l with
  | nil => exact fun o _ _ => trivial
  | cons t l ih =>
    intro o h hs
    obtain ⟨h1, h2⟩ := hs
    refine And.intro ((h o (Nat.le_refl o) (by rw [List.length_cons]; omega)).trans h1) (ih (o + 1) (fun j hj hl => h j (by omega) ?_) h2)
    rw [List.length_cons]
    omega
theorem rs_sg1 {a : Nat → Int32} {o t : Nat} (g h : rs_T) (ht : t ≤ 16) (hs : rs_sg a o (rs_sr 16 (rs_N t g h))) : a o = nI t ∧ rs_sg a (o + 1) (rs_sr 16 g) := by
  rw [rs_sr1 g h ht] at hs
  exact hs
theorem rs_sg2 {a : Nat → Int32} {o t : Nat} (g h : rs_T) (ht : 16 < t) (hs : rs_sg a o (rs_sr 16 (rs_N t g h))) : a o = nI t ∧ rs_sg a (o + 1) (rs_sr 16 g) ∧ rs_sg a (o + 1 + (rs_sr 16 g).length) (rs_sr 16 h) := by
  rw [rs_sr2 g h ht] at hs
  obtain ⟨h1, h2⟩ := hs
  exact ⟨h1, (rs_sg_app a _ _ _).mp h2⟩
theorem rs_sg_hd {a : Nat → Int32} {o h : Nat} {g : rs_T} (hs : rs_sg a o (rs_sr h g)) : a o = nI (rs_hd g) := by
  obtain ⟨l, e⟩ := rs_sr_hd h g
  rw [e] at hs
  exact hs.1
/-! a message is possible when on every way down one comes to it first; the plan behind it -/
def rs_ps (r s l : Nat) : rs_T → Prop
  | .leaf _ => False
  | .branch t a b => (rs_s t = r ∧ rs_r t = s ∧ l < rs_ar t) ∨ ((rs_s t ≠ r ∧ rs_s t ≠ s ∧ rs_r t ≠ r ∧ rs_r t ≠ s) ∧ rs_ps r s l a ∧ (t ≤ 16 ∨ rs_ps r s l b))
def rs_sd (r s l : Nat) : rs_T → rs_T
  | .leaf _ => rs_E
  | .branch t a b => if rs_s t = r ∧ rs_r t = s then (if l = 0 then a else b) else rs_N t (rs_sd r s l a) (rs_sd r s l b)
theorem rs_sd_m {r s l t : Nat} (a b : rs_T) (h : rs_s t = r ∧ rs_r t = s) : rs_sd r s l (rs_N t a b) = if l = 0 then a else b := if_pos h
theorem rs_sd_n {r s l t : Nat} (a b : rs_T) (h : ¬ (rs_s t = r ∧ rs_r t = s)) : rs_sd r s l (rs_N t a b) = rs_N t (rs_sd r s l a) (rs_sd r s l b) := if_neg h
/-- the duties of two roles meet -/
def rs_mt (r s l : Nat) (p q : rs_T) : Prop := rs_du (rs_hd p) = 1 + s ∧ rs_du (rs_hd q) = 5 + r ∧ l < rs_lb (rs_hd p) ∧ l < rs_lb (rs_hd q)
theorem rs_ps_iff {r s : Nat} (l : Nat) (hrs : r ≠ s) (hr : r < 4) (hs : s < 4) (g : rs_T) (hg : rs_G g) (h1 : rs_ok r g) (h2 : rs_ok s g) : rs_ps r s l g ↔ rs_mt r s l (rs_lr r g) (rs_lr s g) := by
  induction g with
  | leaf u =>
    refine ⟨fun h => h.elim, fun h => ?_⟩
    have h3 : (0 : Nat) = 1 + s := h.1
    omega
  | branch t a b ia ib =>
    obtain ⟨g0, g1, g2, g3, g4, g5⟩ := hg
    obtain ⟨p1, p2, p3⟩ := h1
    obtain ⟨q1, q2, q3⟩ := h2
    have hs4 := rs_s4 t
    have hr4 := rs_r4 t
    show ((rs_s t = r ∧ rs_r t = s ∧ l < rs_ar t) ∨ ((rs_s t ≠ r ∧ rs_s t ≠ s ∧ rs_r t ≠ r ∧ rs_r t ≠ s) ∧ rs_ps r s l a ∧ (t ≤ 16 ∨ rs_ps r s l b))) ↔ rs_mt r s l (rs_lr r (rs_N t a b)) (rs_lr s (rs_N t a b))
    by_cases m1 : rs_s t = r ∨ rs_r t = r
    · rw [rs_lr_m a b m1]
      have d1 : rs_du (rs_hd (rs_N (rs_v r t) (rs_lr r a) (rs_lr r b))) = if rs_s t = r then 1 + rs_r t else 5 + rs_s t := rs_du_v r t
      have e1 : rs_lb (rs_hd (rs_N (rs_v r t) (rs_lr r a) (rs_lr r b))) = rs_ar t := rs_lb_v r g0
      unfold rs_mt
      rw [d1, e1]
      by_cases a1 : rs_s t = r
      · rw [if_pos a1]
        by_cases a2 : rs_r t = s
        · rw [rs_lr_m a b (Or.inr a2)]
          have d2 : rs_du (rs_hd (rs_N (rs_v s t) (rs_lr s a) (rs_lr s b))) = if rs_s t = s then 1 + rs_r t else 5 + rs_s t := rs_du_v s t
          have e2 : rs_lb (rs_hd (rs_N (rs_v s t) (rs_lr s a) (rs_lr s b))) = rs_ar t := rs_lb_v s g0
          rw [d2, e2, if_neg (by omega)]
          exact ⟨fun h => ⟨by omega, by omega, by omega, by omega⟩, fun h => Or.inl ⟨a1, a2, h.2.2.1⟩⟩
        · exact ⟨fun h => by omega, fun h => by omega⟩
      · rw [if_neg a1]
        exact ⟨fun h => by omega, fun h => by omega⟩
    · by_cases m2 : rs_s t = s ∨ rs_r t = s
      · rw [rs_lr_m a b m2]
        have d2 : rs_du (rs_hd (rs_N (rs_v s t) (rs_lr s a) (rs_lr s b))) = if rs_s t = s then 1 + rs_r t else 5 + rs_s t := rs_du_v s t
        unfold rs_mt
        rw [d2]
        by_cases a1 : rs_s t = s
        · rw [if_pos a1]
          exact ⟨fun h => by omega, fun h => by omega⟩
        · rw [if_neg a1]
          exact ⟨fun h => by omega, fun h => by omega⟩
      · by_cases ht : t ≤ 16
        · rw [rs_lr_1 a b m1 ht, rs_lr_1 a b m2 ht, ← ia g3 p1 q1]
          refine ⟨fun h => ?_, fun h => Or.inr ⟨by omega, h, Or.inl ht⟩⟩
          rcases h with h | h
          · omega
          · exact h.2.1
        · have e1 : rs_lr r a = rs_lr r b := by
            rcases p3 with h | h | h | h
            · exact absurd (Or.inl h) m1
            · exact absurd (Or.inr h) m1
            · exact absurd h ht
            · exact h
          have e2 : rs_lr s a = rs_lr s b := by
            rcases q3 with h | h | h | h
            · exact absurd (Or.inl h) m2
            · exact absurd (Or.inr h) m2
            · exact absurd h ht
            · exact h
          have ja := ia g3 p1 q1
          have jb := ib g4 p2 q2
          rw [e1, e2] at ja
          rw [rs_lr_2 a b m1 ht, rs_lr_2 a b m2 ht]
          refine ⟨fun h => ?_, fun h => Or.inr ⟨by omega, ja.mpr h, Or.inr (jb.mpr h)⟩⟩
          rcases h with h | h
          · omega
          · exact ja.mp h.2.1
/-- what role x has to do behind the message -/
def rs_nx (r s l x : Nat) (p : rs_T) : rs_T := if x = r ∨ x = s then rs_ch l p else p
theorem rs_nx_t {r s l x : Nat} (p : rs_T) (h : x = r ∨ x = s) : rs_nx r s l x p = rs_ch l p := if_pos h
theorem rs_nx_f {r s l x : Nat} (p : rs_T) (h : ¬ (x = r ∨ x = s)) : rs_nx r s l x p = p := if_neg h
theorem rs_sd_lr {r s l : Nat} (x : Nat) (g : rs_T) (hg : rs_G g) (hp : rs_ps r s l g) (hx : rs_ok x g) : rs_ok x (rs_sd r s l g) ∧ rs_lr x (rs_sd r s l g) = rs_nx r s l x (rs_lr x g) := by
  induction g with
  | leaf u => exact hp.elim
  | branch t a b ia ib =>
    obtain ⟨g0, g1, g2, g3, g4, g5⟩ := hg
    obtain ⟨p1, p2, p3⟩ := hx
    show rs_ok x (rs_sd r s l (rs_N t a b)) ∧ rs_lr x (rs_sd r s l (rs_N t a b)) = rs_nx r s l x (rs_lr x (rs_N t a b))
    rcases hp with ⟨h1, h2, h3⟩ | ⟨hn, ha, hb⟩
    · rw [rs_sd_m a b ⟨h1, h2⟩]
      by_cases hm : rs_s t = x ∨ rs_r t = x
      · rw [rs_lr_m a b hm, rs_nx_t _ (by omega)]
        show _ ∧ _ = if l = 0 then rs_lr x a else rs_lr x b
        by_cases l0 : l = 0
        · rw [if_pos l0, if_pos l0]
          exact ⟨p1, rfl⟩
        · rw [if_neg l0, if_neg l0]
          exact ⟨p2, rfl⟩
      · rw [rs_nx_f _ (by omega)]
        by_cases ht : t ≤ 16
        · rw [rs_ar1 g0 ht] at h3
          rw [if_pos (by omega), rs_lr_1 a b hm ht]
          exact ⟨p1, rfl⟩
        · rw [rs_lr_2 a b hm ht]
          have e1 : rs_lr x a = rs_lr x b := by
            rcases p3 with h | h | h | h
            · exact absurd (Or.inl h) hm
            · exact absurd (Or.inr h) hm
            · exact absurd h ht
            · exact h
          by_cases l0 : l = 0
          · rw [if_pos l0]
            exact ⟨p1, e1⟩
          · rw [if_neg l0]
            exact ⟨p2, rfl⟩
    · rw [rs_sd_n a b (fun h => hn.1 h.1)]
      obtain ⟨ja, ka⟩ := ia g3 ha p1
      by_cases ht : t ≤ 16
      · have eb := g5 ht
        subst eb
        by_cases hm : rs_s t = x ∨ rs_r t = x
        · rw [rs_lr_m _ _ hm, rs_lr_m _ _ hm, ka]
          refine ⟨And.intro ja ⟨trivial, ?_⟩, ?_⟩
          · omega
          · rw [rs_nx_f _ (by omega), rs_nx_f _ (by omega)]
            rfl
        · rw [rs_lr_1 _ _ hm ht, rs_lr_1 _ _ hm ht]
          exact ⟨And.intro ja ⟨trivial, Or.inr (Or.inr (Or.inl ht))⟩, ka⟩
      · obtain ⟨jb, kb⟩ := ib g4 (hb.resolve_left ht) p2
        by_cases hm : rs_s t = x ∨ rs_r t = x
        · rw [rs_lr_m _ _ hm, rs_lr_m _ _ hm, ka, kb]
          refine ⟨And.intro ja ⟨jb, ?_⟩, ?_⟩
          · omega
          · rw [rs_nx_f _ (by omega), rs_nx_f _ (by omega), rs_nx_f _ (by omega)]
        · have e1 : rs_lr x a = rs_lr x b := by
            rcases p3 with h | h | h | h
            · exact absurd (Or.inl h) hm
            · exact absurd (Or.inr h) hm
            · exact absurd h ht
            · exact h
          rw [rs_lr_2 _ _ hm ht, rs_lr_2 _ _ hm ht]
          refine ⟨And.intro ja ⟨jb, Or.inr (Or.inr (Or.inr ?_))⟩, kb⟩
          rw [ka, kb, e1]
theorem rs_sd_G (r s l : Nat) (g : rs_T) (hg : rs_G g) : rs_G (rs_sd r s l g) := by
  induction g with
  | leaf u => exact trivial
  | branch t a b ia ib =>
    obtain ⟨g0, g1, g2, g3, g4, g5⟩ := hg
    show rs_G (rs_sd r s l (rs_N t a b))
    by_cases h : rs_s t = r ∧ rs_r t = s
    · rw [rs_sd_m a b h]
      split
      · exact g3
      · exact g4
    · rw [rs_sd_n a b h]
      refine And.intro g0 ⟨g1, g2, ia g3, ib g4, fun ht => ?_⟩
      rw [g5 ht]
      rfl
theorem rs_sd_len (r s l : Nat) (g : rs_T) (hg : rs_G g) (hp : rs_ps r s l g) : (rs_sr 16 (rs_sd r s l g)).length ≤ (rs_sr 16 g).length := by
  induction g with
  | leaf u => exact hp.elim
  | branch t a b ia ib =>
    obtain ⟨g0, g1, g2, g3, g4, g5⟩ := hg
    show (rs_sr 16 (rs_sd r s l (rs_N t a b))).length ≤ (rs_sr 16 (rs_N t a b)).length
    rcases hp with ⟨h1, h2, h3⟩ | ⟨hn, ha, hb⟩
    · rw [rs_sd_m a b ⟨h1, h2⟩]
      by_cases ht : t ≤ 16
      · rw [rs_ar1 g0 ht] at h3
        rw [if_pos (by omega), rs_lenN1 a b ht]
        omega
      · rw [rs_lenN2 a b (by omega)]
        split <;> omega
    · rw [rs_sd_n a b (fun h => hn.1 h.1)]
      have ja := ia g3 ha
      by_cases ht : t ≤ 16
      · rw [rs_lenN1 _ _ ht, rs_lenN1 _ _ ht]
        omega
      · have jb := ib g4 (hb.resolve_left ht)
        rw [rs_lenN2 _ _ (by omega), rs_lenN2 _ _ (by omega)]
        omega
theorem rs_nd_sr (g : rs_T) : rs_G g → ∀ (k : Nat) (m : List Nat), rs_nd (k + 1) (rs_sr 16 g ++ m) = rs_nd k m := by
  induction g with
  | leaf u => exact fun _ k m => rfl
  | branch t a b ia ib =>
    intro hg k m
    obtain ⟨g0, g1, g2, g3, g4, g5⟩ := hg
    show rs_nd (k + 1) (rs_sr 16 (rs_N t a b) ++ m) = rs_nd k m
    by_cases h16 : t ≤ 16
    · rw [rs_sr1 a b h16]
      show rs_nd (k + 1 - 1 + rs_ar t) (rs_sr 16 a ++ m) = _
      rw [rs_ar1 g0 h16, Nat.add_sub_cancel, ia g3]
    · rw [rs_sr2 a b (by omega), List.cons_append, List.append_assoc]
      show rs_nd (k + 1 - 1 + rs_ar t) (rs_sr 16 a ++ (rs_sr 16 b ++ m)) = _
      rw [rs_ar2 (by omega), Nat.add_sub_cancel, ia g3, ib g4]
theorem rs_nd_sr1 {g : rs_T} (hg : rs_G g) : rs_nd 1 (rs_sr 16 g) = 0 := by
  have := rs_nd_sr g hg 0 []
  rw [List.append_nil] at this
  exact this
/-! the one pure state: the list l, what is left of the plan while running -/
def rs_A (l : List Nat) (hh : Option rs_T) : Prop := (∀ t, t ∈ l → rs_tok t) ∧ rs_vd 1 l ∧ l.length ≤ 21 ∧ ∀ h, hh = some h → rs_G h ∧ (rs_sr 16 h).length ≤ 21 ∧ ∀ x, x < 4 → rs_ok x h
def rs_PS (hh : Option rs_T) (r s y : Int32) : Prop := ∃ (h : rs_T) (R S L : Nat), hh = some h ∧ R < 4 ∧ S < 4 ∧ R ≠ S ∧ L < 2 ∧ r = nI R ∧ s = nI S ∧ y = nI L ∧ rs_ps R S L h
theorem rs_PS_none (r s y : Int32) : ¬ rs_PS none r s y := by
  rintro ⟨h, R, S, L, e, _⟩
  exact nomatch e
theorem rs_PS_iff {h : rs_T} {R S L : Nat} (hR : R < 4) (hS : S < 4) (hL : L < 2 ^ 31) : rs_PS (some h) (nI R) (nI S) (nI L) ↔ R ≠ S ∧ L < 2 ∧ rs_ps R S L h := by
  constructor
  · rintro ⟨h', R', S', L', e, h1, h2, h3, h4, h5, h6, h7, h8⟩
    rw [nI_eq (by omega) (by omega)] at h5 h6 h7
    injection e with e
    subst e h5 h6 h7
    exact ⟨h3, h4, h8⟩
  · rintro ⟨h1, h2, h3⟩
    exact ⟨h, R, S, L, rfl, hR, hS, h1, h2, rfl, rfl, rfl, h3⟩
end
section
/-! numbers -/
theorem rs_tabA : ∀ t, t < 33 → 0 < t → t ≤ 16 → (nI t - 1) &&& 3 = nI (rs_s t) ∧ (nI t - 1) >>> ((2 : Int32) &&& 31) = nI (rs_r t) := by decide +kernel
theorem rs_tabB : ∀ t, t < 33 → 16 < t → (nI t - 17) &&& 3 = nI (rs_s t) ∧ (nI t - 17) >>> ((2 : Int32) &&& 31) = nI (rs_r t) := by decide +kernel
theorem rs_tabY : ∀ t, t < 33 → 0 < t → (nI t - 1) &&& 3 = nI (rs_s t) ∧ ((nI t - 1) >>> ((2 : Int32) &&& 31)) &&& 3 = nI (rs_r t) := by decide +kernel
theorem rs_nb {m : Nat} (h : m < 128) : vp_nar .byte (nI m).toInt8.toInt32 = nI m := by
  rw [pk_vb, lg_i2b_small (by rw [nI_toInt (by omega)]; omega) (by rw [nI_toInt (by omega)]; omega)]
theorem rs_nb0 {m : Nat} (h : m < 128) : vp_nar .byte (nI m) = nI m := by
  rw [vp_nar_byte, lg_i2b_small (by rw [nI_toInt (by omega)]; omega) (by rw [nI_toInt (by omega)]; omega)]
theorem rs_nbm : vp_nar .byte (-1 : Int32).toInt8.toInt32 = -1 := by
  rw [pk_vb]; decide
theorem rs_nm1 {p : Nat} (h : p < 2 ^ 31) : ¬ nI p = -1 := by
  intro e
  have h1 := congrArg Int32.toInt e
  rw [nI_toInt h, show (-1 : Int32).toInt = -1 from by decide] at h1
  omega
theorem rs_kk {k : Nat} (m : Nat) (h : 0 < k) : nI k + (nI m - 1) = nI (k - 1 + m) := by
  obtain ⟨j, rfl⟩ : ∃ j, k = j + 1 := ⟨k - 1, by omega⟩
  rw [Nat.add_sub_cancel, ← nI_1 j, ← nI_add]
  grind
theorem rs_kl {k : Nat} (m : Nat) (h : 0 < k) : (nI k - 1) + nI m = nI (k - 1 + m) := by
  obtain ⟨j, rfl⟩ : ∃ j, k = j + 1 := ⟨k - 1, by omega⟩
  rw [Nat.add_sub_cancel, nI_pred, nI_add]
theorem rs_m1 (x : Int32) : x - 1 = x + (-1) := by grind
theorem rs_neg {x : Int32} (h : x < 0) : ¬ x = 0 ∧ x < 1 ∧ x ≤ 0 := by
  have h0 : (0 : Int32).toInt = 0 := by decide
  have h1 : (1 : Int32).toInt = 1 := by decide
  rw [Int32.lt_iff_toInt_lt, h0] at h
  refine ⟨fun e => ?_, ?_, ?_⟩
  · rw [e, h0] at h; omega
  · rw [Int32.lt_iff_toInt_lt, h1]; omega
  · rw [Int32.le_iff_toInt_le, h0]; omega
theorem rs_big {x : Int32} {n : Nat} (hn : n < 2 ^ 31) (h : nI n ≤ x) : ∃ j, n ≤ j ∧ j < 2 ^ 31 ∧ x = nI j := by
  have h2 : ¬ x < 0 := by
    have h0 : (0 : Int32).toInt = 0 := by decide
    rw [Int32.le_iff_toInt_le, nI_toInt hn] at h
    rw [Int32.lt_iff_toInt_lt, h0]
    omega
  obtain ⟨j, hj, rfl⟩ := nI_of h2
  exact ⟨j, (nI_leI hn hj).mp h, hj, rfl⟩
/-- every int: a negative one, a role, or more -/
theorem rs_role (x : Int32) : (∃ r, r < 4 ∧ x = nI r) ∨ (∀ r, r < 4 → x ≠ nI r) := by
  by_cases h : ∃ r, r < 4 ∧ x = nI r
  · exact Or.inl h
  · exact Or.inr (fun r hr e => h ⟨r, hr, e⟩)
theorem rs_xrole1 {post : Int32 → Prop} {r : Nat} (h : r < 4) (hp : post 1) : wpX_isRole post (nI r) :=
  br_f (nI_pos (by omega)) (br_f (nI_ge (b := 4) h (by decide)) hp)
theorem rs_xrole0 {post : Int32 → Prop} {x : Int32} (h : ∀ r, r < 4 → x ≠ nI r) (hp : post 0) : wpX_isRole post x := by
  rcases pk_ix x (n := 4) (by decide) with h1 | h1 | ⟨j, hj, e⟩
  · exact br_t h1 hp
  · obtain ⟨j, hj, hj2, rfl⟩ := rs_big (by decide) h1
    exact br_f (nI_pos hj2) (br_t h1 hp)
  · exact absurd e (h j hj)
theorem rs_xlab {post : Int32 → Prop} {t : Nat} (h : t ≤ 32) (hp : post (nI (rs_ar t))) : wpX_labelsOf post (nI t) := by
  by_cases h0 : t = 0
  · subst h0
    exact br_t rfl hp
  · refine br_f (nI_ne0 (by omega) (by omega)) ?_
    by_cases h16 : t ≤ 16
    · rw [rs_ar1 (by omega) h16] at hp
      exact br_t (nI_le (b := 16) h16 (by decide)) hp
    · rw [rs_ar2 (by omega)] at hp
      exact br_f (nI_ge (a := 16) (by omega) (by omega)) hp
theorem rs_xsnd {post : Int32 → Prop} {t : Nat} (h0 : 0 < t) (h : t ≤ 32) (hp : post (nI (rs_s t))) : wpX_senderOf post (nI t) := by
  by_cases h16 : t ≤ 16
  · rw [← (rs_tabA t (by omega) h0 h16).1] at hp
    exact br_t (nI_le (b := 16) h16 (by decide)) hp
  · rw [← (rs_tabB t (by omega) (by omega)).1] at hp
    exact br_f (nI_ge (a := 16) (by omega) (by omega)) hp
theorem rs_xrcv {post : Int32 → Prop} {t : Nat} (h0 : 0 < t) (h : t ≤ 32) (hp : post (nI (rs_r t))) : wpX_receiverOf post (nI t) := by
  by_cases h16 : t ≤ 16
  · rw [← (rs_tabA t (by omega) h0 h16).2] at hp
    exact br_t (nI_le (b := 16) h16 (by decide)) hp
  · rw [← (rs_tabB t (by omega) (by omega)).2] at hp
    exact br_f (nI_ge (a := 16) (by omega) (by omega)) hp
theorem rs_xtok1 {post : Int32 → Prop} {t : Nat} (h : rs_tok t) (hp : post 1) : wpX_isToken post (nI t) := by
  obtain ⟨h32, hd⟩ := h
  by_cases h0 : t = 0
  · subst h0
    exact br_t (nI_le (b := 16) (by omega) (by decide)) (br_t rfl hp)
  · have hne : ¬ nI (rs_s t) = nI (rs_r t) := by
      rw [nI_eq (by have := rs_s4 t; omega) (by have := rs_r4 t; omega)]
      exact hd (by omega)
    by_cases h16 : t ≤ 16
    · refine br_t (nI_le (b := 16) h16 (by decide)) (br_f (nI_ne0 (by omega) (by omega)) (br_f (nI_nlt (b := 1) (by omega) (by omega)) (br_f (nI_nlt (a := 32) (by omega) (by decide)) (br_f ?_ hp))))
      rw [(rs_tabA t (by omega) (by omega) h16).1, (rs_tabA t (by omega) (by omega) h16).2]
      exact hne
    · refine br_f (nI_ge (a := 16) (by omega) (by omega)) (br_f (nI_ne0 (by omega) (by omega)) (br_f (nI_nlt (b := 1) (by omega) (by omega)) (br_f (nI_nlt (a := 32) (by omega) (by decide)) (br_f ?_ hp))))
      rw [(rs_tabB t (by omega) (by omega)).1, (rs_tabB t (by omega) (by omega)).2]
      exact hne
theorem rs_xtokN {post : Int32 → Prop} {x : Int32} (h : x < 0) (hp : post 0) : wpX_isToken post x :=
  br_c (fun _ => br_f (rs_neg h).1 (br_t (rs_neg h).2.1 hp)) (fun _ => br_f (rs_neg h).1 (br_t (rs_neg h).2.1 hp))
theorem rs_xtokB {post : Int32 → Prop} {j : Nat} (h : 33 ≤ j) (hj : j < 2 ^ 31) (hp : post 0) : wpX_isToken post (nI j) :=
  br_f (nI_ge (a := 16) (by omega) hj) (br_f (nI_ne0 (by omega) hj) (br_f (nI_nlt (b := 1) (by omega) hj) (br_t (nI_lt (a := 32) (by omega) hj) hp)))
theorem rs_xtokE {post : Int32 → Prop} {t : Nat} (h0 : 0 < t) (h32 : t ≤ 32) (hd : rs_s t = rs_r t) (hp : post 0) : wpX_isToken post (nI t) := by
  by_cases h16 : t ≤ 16
  · refine br_t (nI_le (b := 16) h16 (by decide)) (br_f (nI_ne0 (by omega) (by omega)) (br_f (nI_nlt (b := 1) (by omega) (by omega)) (br_f (nI_nlt (a := 32) (by omega) (by decide)) (br_t ?_ hp))))
    rw [(rs_tabA t (by omega) (by omega) h16).1, (rs_tabA t (by omega) (by omega) h16).2, hd]
  · refine br_f (nI_ge (a := 16) (by omega) (by omega)) (br_f (nI_ne0 (by omega) (by omega)) (br_f (nI_nlt (b := 1) (by omega) (by omega)) (br_f (nI_nlt (a := 32) (by omega) (by decide)) (br_t ?_ hp))))
    rw [(rs_tabB t (by omega) (by omega)).1, (rs_tabB t (by omega) (by omega)).2, hd]
section
variable {c kn pc rn sc : Int32} {tk sp pa du lc fo sz pr : Nat → Int32}
theorem rs_xmiss {post : Int32 → Prop} (l : List Nat) : ∀ k o : Nat, rs_sg tk o l → (∀ t, t ∈ l → rs_tok t) → rs_vd k l → o + l.length ≤ 21 → c = nI (o + l.length) → post (nI (rs_nd k l)) → wX_missing_4 post c kn pc rn sc tk sp pa du lc fo sz pr (l.length + 1) (nI k) (nI o) := by
  induction l with
  | nil =>
    intro k o hs ht hv ho hc hp
    refine br_t ?_ hp
    rw [hc]
    exact nI_le (Nat.le_refl _) (by omega)
  | cons t l ih =>
    intro k o hs ht hv ho hc hp
    obtain ⟨h1, h2⟩ := hs
    obtain ⟨v1, v2⟩ := hv
    rw [List.length_cons] at ho hc
    have hk : ¬ c ≤ nI o := by
      rw [hc]
      exact nI_ge (by omega) (by omega)
    refine br_f hk ⟨vp_in_nI (by omega) (by decide), ?_⟩
    rw [nI_clamp (by omega), h1]
    refine rs_xlab (ht t List.mem_cons_self).1 ?_
    refine nm_r (rs_kk (rs_ar t) v1) (nm_r (nI_1 o) ?_)
    exact ih _ _ h2 (fun e he => ht e (List.mem_cons_of_mem _ he)) v2 (by omega) (by rw [hc]; exact congrArg nI (by omega)) hp
theorem rs_xcomp {post : Int32 → Prop} {l : List Nat} (hs : rs_sg tk 0 l) (ht : ∀ t, t ∈ l → rs_tok t) (hv : rs_vd 1 l) (hl : l.length ≤ 21) (hc : c = nI l.length) (h1 : rs_nd 1 l = 0 → post 1) (h0 : rs_nd 1 l ≠ 0 → post 0) : wpX_complete post (c, kn, pc, rn, sc, tk, sp, pa, du, lc, fo, sz, pr) := by
  show ∃ n4 : Nat, wX_missing_4 _ c kn pc rn sc tk sp pa du lc fo sz pr n4 1 0
  have hn := rs_nd_le l 1
  refine ⟨l.length + 1, rs_xmiss l 1 0 hs ht hv (by omega) (by rw [hc, Nat.zero_add]) ?_⟩
  exact pk_eq (rs_nd 1 l) 0 h1 h0
end
end
section
/-! the pool of parts: part p stands for the tree d p, no tree stands twice -/
def rs_Pe (d : Nat → rs_T) (du lc fo sz : Nat → Int32) (p : Nat) : Prop := ∃ v a b : Nat, 0 < v ∧ v ≤ 16 ∧ a < p ∧ b < p ∧ d p = rs_N v (d a) (d b) ∧ du p = nI (rs_du v) ∧ lc p = nI (rs_lb v) ∧ fo (2 * p) = nI a ∧ fo (2 * p + 1) = nI b ∧ sz p = nI (rs_sz (d p))
def rs_PL (q : Nat) (d : Nat → rs_T) (du lc fo sz : Nat → Int32) : Prop := 0 < q ∧ d 0 = rs_E ∧ sz 0 = 0 ∧ (∀ p, 0 < p → p < q → rs_Pe d du lc fo sz p) ∧ (∀ i j, i < q → j < q → d i = d j → i = j)
theorem rs_PL_sz {q : Nat} {d : Nat → rs_T} {du lc fo sz : Nat → Int32} (hP : rs_PL q d du lc fo sz) {p : Nat} (hp : p < q) : sz p = nI (rs_sz (d p)) := by
  obtain ⟨h0, h1, h2, h3, h4⟩ := hP
  by_cases z : p = 0
  · rw [z, h1, h2]
    rfl
  · obtain ⟨v, a, b, _, _, _, _, _, _, _, _, _, h⟩ := h3 p (by omega) hp
    exact h
theorem rs_PL_1 {du lc fo sz : Nat → Int32} (h : sz 0 = 0) : rs_PL 1 (fun _ => rs_E) du lc fo sz :=
  ⟨by omega, rfl, h, fun p h1 h2 => by omega, fun i j h1 h2 _ => by omega⟩
theorem rs_PL_new {q v a b : Nat} {d : Nat → rs_T} {du lc fo sz : Nat → Int32} (hP : rs_PL q d du lc fo sz) (hv0 : 0 < v) (hv : v ≤ 16) (ha : a < q) (hb : b < q) (hn : ∀ j, j < q → d j ≠ rs_N v (d a) (d b)) : rs_PL (q + 1) (fun i => if i = q then rs_N v (d a) (d b) else d i) (upd du q (nI (rs_du v))) (upd lc q (nI (rs_lb v))) (upd (upd fo (2 * q) (nI a)) (2 * q + 1) (nI b)) (upd sz q (nI (1 + rs_sz (d a) + rs_sz (d b)))) := by
  obtain ⟨h0, h1, h2, h3, h4⟩ := hP
  have hlow : ∀ i, i < q → (fun i => if i = q then rs_N v (d a) (d b) else d i) i = d i := fun i hi => if_neg (by omega)
  have htop : (fun i => if i = q then rs_N v (d a) (d b) else d i) q = rs_N v (d a) (d b) := if_pos rfl
  generalize (fun i => if i = q then rs_N v (d a) (d b) else d i) = D at hlow htop
  refine ⟨by omega, ?_, ?_, ?_, ?_⟩
  · rw [hlow 0 h0, h1]
  · rw [pk_un (by omega), h2]
  · intro p hp0 hp
    by_cases z : p = q
    · subst z
      refine ⟨v, a, b, hv0, hv, ha, hb, ?_, pk_us, pk_us, ?_, pk_us, ?_⟩
      · rw [htop, hlow a ha, hlow b hb]
      · rw [pk_un (by omega), pk_us]
      · rw [pk_us, htop]
        rfl
    · obtain ⟨v', a', b', g1, g2, g3, g4, g5, g6, g7, g8, g9, g10⟩ := h3 p hp0 (by omega)
      refine ⟨v', a', b', g1, g2, g3, g4, ?_, ?_, ?_, ?_, ?_, ?_⟩
      · rw [hlow p (by omega), hlow a' (by omega), hlow b' (by omega), g5]
      · rw [pk_un z, g6]
      · rw [pk_un z, g7]
      · rw [pk_un (by omega), pk_un (by omega), g8]
      · rw [pk_un (by omega), pk_un (by omega), g9]
      · rw [pk_un z, hlow p (by omega), g10]
  · intro i j hi hj e
    by_cases zi : i = q
    · by_cases zj : j = q
      · omega
      · rw [zi, htop, hlow j (by omega)] at e
        exact absurd e.symm (hn j (by omega))
    · by_cases zj : j = q
      · rw [zj, htop, hlow i (by omega)] at e
        exact absurd e (hn i (by omega))
      · rw [hlow i (by omega), hlow j (by omega)] at e
        exact h4 i j (by omega) (by omega) e
section
variable {c kn pc rn sc : Int32} {tk sp pa du lc fo sz pr : Nat → Int32}
theorem rs_xpf3 {post : Int32 → SX → Prop} {q v a b : Nat} {d : Nat → rs_T} (hP : rs_PL q d du lc fo sz) (hq : q < 48) (hv0 : 0 < v) (hv : v ≤ 16) (ha : a < q) (hb : b < q) (K : ∀ (p q' : Nat) (d' : Nat → rs_T) (du' lc' fo' sz' : Nat → Int32), p < q' → q ≤ q' → q' ≤ q + 1 → rs_PL q' d' du' lc' fo' sz' → (∀ i, i < q → d' i = d i) → d' p = rs_N v (d a) (d b) → post (nI p) (c, kn, nI q', rn, sc, tk, sp, pa, du', lc', fo', sz', pr)) : ∀ m i : Nat, i + m = q → 0 < i → (∀ j, j < i → d j ≠ rs_N v (d a) (d b)) → wX_partFor_3 post (nI (rs_du v)) (nI (rs_lb v)) (nI a) (nI b) c kn (nI q) rn sc tk sp pa du lc fo sz pr (m + 1) (nI i) := by
  have d1 := rs_du_in hv0 hv
  have d2 := rs_lb_in v
  intro m
  induction m with
  | zero =>
    intro i hi h0 hj
    have e : i = q := by omega
    subst e
    have hc : (nI i).toNatClampNeg = i := nI_clamp (by omega)
    have e2 : (2 : Int32) * nI i = nI (2 * i) := pk_mul 2 i
    have e3 : (2 : Int32) * nI i + 1 = nI (2 * i + 1) := by rw [e2, nI_1]
    have i48 : vp_in (nI i) 48 := vp_in_nI hq (by decide)
    have i2 : vp_in ((2 : Int32) * nI i) 96 := by rw [e2]; exact vp_in_nI (by omega) (by decide)
    have i3 : vp_in ((2 : Int32) * nI i + 1) 96 := by rw [e3]; exact vp_in_nI (by omega) (by decide)
    refine br_t (nI_le (Nat.le_refl _) (by omega)) ⟨i48, ?_⟩
    refine nm_r (e' := upd du i (nI (rs_du v))) (by rw [hc, rs_nb (by omega)]) ⟨i48, ?_⟩
    refine nm_r (e' := upd lc i (nI (rs_lb v))) (by rw [hc, rs_nb (by omega)]) ⟨i2, ?_⟩
    refine nm_r (e' := upd fo (2 * i) (nI a)) (by rw [e2, nI_clamp (by omega), rs_nb (by omega)]) ⟨i3, ?_⟩
    refine nm_r (e' := upd (upd fo (2 * i) (nI a)) (2 * i + 1) (nI b)) (by rw [e3, nI_clamp (by omega), rs_nb (by omega)]) ⟨vp_in_nI (by omega) (by decide), vp_in_nI (by omega) (by decide), i48, ?_⟩
    refine nm_r (e' := upd sz i (nI (1 + rs_sz (d a) + rs_sz (d b)))) ?_ (nm_r (nI_1 i) ?_)
    · rw [hc, nI_clamp (by omega), nI_clamp (by omega), rs_PL_sz hP ha, rs_PL_sz hP hb, show (1 : Int32) = nI 1 from rfl, nI_add, nI_add]
    · exact K i (i + 1) _ _ _ _ _ (by omega) (by omega) (by omega) (rs_PL_new hP hv0 hv ha hb hj) (fun k hk => if_neg (by omega)) (if_pos rfl)
  | succ m ih =>
    intro i hi h0 hj
    have hc : (nI i).toNatClampNeg = i := nI_clamp (by omega)
    have e2 : (2 : Int32) * nI i = nI (2 * i) := pk_mul 2 i
    have e3 : (2 : Int32) * nI i + 1 = nI (2 * i + 1) := by rw [e2, nI_1]
    have i48 : vp_in (nI i) 48 := vp_in_nI (by omega) (by decide)
    have i2 : vp_in ((2 : Int32) * nI i) 96 := by rw [e2]; exact vp_in_nI (by omega) (by decide)
    have i3 : vp_in ((2 : Int32) * nI i + 1) 96 := by rw [e3]; exact vp_in_nI (by omega) (by decide)
    obtain ⟨v', a', b', g1, g2, g3, g4, g5, g6, g7, g8, g9, g10⟩ := hP.2.2.2.1 i h0 (by omega)
    have f1 := rs_du_in g1 g2
    have f2 := rs_lb_in v'
    have J : d i ≠ rs_N v (d a) (d b) → ∀ x : Int32, x = nI i + 1 → wX_partFor_3 post (nI (rs_du v)) (nI (rs_lb v)) (nI a) (nI b) c kn (nI q) rn sc tk sp pa du lc fo sz pr (m + 1) x := by
      intro hne
      refine nm_r (nI_1 i) (ih (i + 1) (by omega) (by omega) (fun j hj' => ?_))
      by_cases z : j = i
      · rw [z]; exact hne
      · exact hj j (by omega)
    have M : rs_du v' = rs_du v ∧ rs_lb v' = rs_lb v ∧ d a' = d a ∧ d b' = d b ↔ d i = rs_N v (d a) (d b) := by
      rw [g5]
      constructor
      · intro h
        rw [rs_dl g1 g2 hv0 hv h.1 h.2.1, h.2.2.1, h.2.2.2]
      · intro h
        injection h with h5 h6 h7
        rw [h5]
        exact ⟨rfl, rfl, h6, h7⟩
    refine br_f (nI_ge (by omega) (by omega)) ⟨i48, ?_⟩
    refine pk_eq (rs_du v') (rs_du v) (fun y1 => ⟨i48, pk_eq (rs_lb v') (rs_lb v) (fun y2 => ?_) (fun y2 => ?_) (by rw [hc, g7]) rfl (by omega) (by omega)⟩) (fun y1 => ?_) (by rw [hc, g6]) rfl (by omega) (by omega)
    · refine br_f (by decide) ⟨i2, pk_eq a' a (fun y3 => ⟨i3, pk_eq b' b (fun y4 => ?_) (fun y4 => ?_) (by rw [e3, nI_clamp (by omega), g9]) rfl (by omega) (by omega)⟩) (fun y3 => ?_) (by rw [e2, nI_clamp (by omega), g8]) rfl (by omega) (by omega)⟩
      · exact K i q d du lc fo sz (by omega) (Nat.le_refl q) (by omega) hP (fun _ _ => rfl) (M.mp ⟨y1, y2, by rw [y3], by rw [y4]⟩)
      · exact J (fun h => y4 (hP.2.2.2.2 b' b (by omega) (by omega) (M.mpr h).2.2.2))
      · exact J (fun h => y3 (hP.2.2.2.2 a' a (by omega) (by omega) (M.mpr h).2.2.1))
    · exact br_t rfl (J (fun h => y2 (M.mpr h).2.1))
    · exact br_t rfl (J (fun h => y1 (M.mpr h).1))
theorem rs_xpf {post : Int32 → SX → Prop} {q v a b : Nat} {d : Nat → rs_T} (hP : rs_PL q d du lc fo sz) (hq : q < 48) (hv0 : 0 < v) (hv : v ≤ 16) (ha : a < q) (hb : b < q) (K : ∀ (p q' : Nat) (d' : Nat → rs_T) (du' lc' fo' sz' : Nat → Int32), p < q' → q ≤ q' → q' ≤ q + 1 → rs_PL q' d' du' lc' fo' sz' → (∀ i, i < q → d' i = d i) → d' p = rs_N v (d a) (d b) → post (nI p) (c, kn, nI q', rn, sc, tk, sp, pa, du', lc', fo', sz', pr)) : wpX_partFor post (c, kn, nI q, rn, sc, tk, sp, pa, du, lc, fo, sz, pr) (nI (rs_du v)) (nI (rs_lb v)) (nI a) (nI b) := by
  show ∃ n3 : Nat, wX_partFor_3 post (nI (rs_du v)) (nI (rs_lb v)) (nI a) (nI b) c kn (nI q) rn sc tk sp pa du lc fo sz pr n3 1
  have h0 := hP.1
  refine ⟨q - 1 + 1, rs_xpf3 hP hq hv0 hv ha hb K (q - 1) 1 (by omega) (by omega) (fun j hj => ?_)⟩
  have : j = 0 := by omega
  rw [this, hP.2.1]
  intro e
  exact nomatch e
/-! a cell of parts: the part of a tree, or -1 -/
def rs_pe (d : Nat → rs_T) (q : Nat) (x : Int32) (P : Prop) (g : rs_T) : Prop := (P → ∃ p, p < q ∧ x = nI p ∧ d p = g) ∧ (¬ P → x = -1)
theorem rs_pe_mono {d d' : Nat → rs_T} {q q' : Nat} {x : Int32} {P : Prop} {g : rs_T} (hq : q ≤ q') (hd : ∀ i, i < q → d' i = d i) (h : rs_pe d q x P g) : rs_pe d' q' x P g := by
  refine ⟨fun hP => ?_, h.2⟩
  obtain ⟨p, h1, h2, h3⟩ := h.1 hP
  exact ⟨p, by omega, h2, by rw [hd p h1, h3]⟩
theorem rs_xp50 {post : Int32 → SX → Prop} {q o t x : Nat} {ca cb : Int32} {a b : rs_T} {d : Nat → rs_T} (hP : rs_PL q d du lc fo sz) (hq : q < 48) (h0 : 0 < t) (h32 : t ≤ 32) (hb16 : t ≤ 16 → b = rs_E) (ht : tk o = nI t) (ho : o < 21) (ha : rs_pe d q ca (rs_ok x a) (rs_lr x a)) (hb : rs_pe d q cb (rs_ok x b) (rs_lr x b)) (hx : x < 4) (K : ∀ (y : Int32) (q' : Nat) (d' : Nat → rs_T) (du' lc' fo' sz' : Nat → Int32), q ≤ q' → q' ≤ q + 1 → (¬ (rs_s t = x ∨ rs_r t = x) → q' = q) → rs_PL q' d' du' lc' fo' sz' → (∀ i, i < q → d' i = d i) → rs_pe d' q' y (rs_ok x (rs_N t a b)) (rs_lr x (rs_N t a b)) → post y (c, kn, nI q', rn, sc, tk, sp, pa, du', lc', fo', sz', pr)) : wX_project_50 post (nI o) (nI (rs_ar t)) (nI x) ca cb c kn (nI q) rn sc tk sp pa du lc fo sz pr := by
  have hs4 := rs_s4 t
  have hr4 := rs_r4 t
  have hN : ∀ (h : ¬ rs_ok x (rs_N t a b)), post (-1) (c, kn, nI q, rn, sc, tk, sp, pa, du, lc, fo, sz, pr) := fun h => K (-1) q d du lc fo sz (Nat.le_refl q) (by omega) (fun _ => rfl) hP (fun _ _ => rfl) ⟨fun h' => absurd h' h, fun _ => rfl⟩
  by_cases oa : rs_ok x a
  · by_cases ob : rs_ok x b
    · obtain ⟨p1, l1, rfl, e1⟩ := ha.1 oa
      obtain ⟨p2, l2, rfl, e2⟩ := hb.1 ob
      have i21 : vp_in (nI o) 21 := vp_in_nI ho (by decide)
      refine br_f (rs_nm1 (by omega)) (br_f (rs_nm1 (by omega)) ⟨i21, ?_⟩)
      rw [nI_clamp (by omega), ht]
      refine rs_xsnd h0 h32 ⟨i21, rs_xrcv h0 h32 ?_⟩
      refine pk_eq x (rs_s t) (fun m1 => ?_) (fun m1 => pk_eq x (rs_r t) (fun m2 => ?_) (fun m2 => ?_))
      · have ed : (1 : Int32) + nI (rs_r t) = nI (rs_du (rs_v x t)) := by
          rw [rs_du_v, if_pos m1.symm]
          exact nI_add 1 _
        rw [ed, ← rs_lb_v x h0]
        refine rs_xpf hP hq (rs_v_in x t).1 (rs_v_in x t).2 l1 l2 ?_
        intro p q' d' du' lc' fo' sz' k1 k2 k3 k4 k5 k6
        refine K (nI p) q' d' du' lc' fo' sz' k2 k3 (fun h => absurd (Or.inl m1.symm) h) k4 k5 ⟨fun _ => ⟨p, k1, rfl, ?_⟩, fun h => absurd (And.intro oa ⟨ob, Or.inl m1.symm⟩) h⟩
        rw [k6, e1, e2, rs_lr_m a b (Or.inl m1.symm)]
      · have ed : (5 : Int32) + nI (rs_s t) = nI (rs_du (rs_v x t)) := by
          rw [rs_du_v, if_neg (fun h => m1 h.symm)]
          exact nI_add 5 _
        rw [ed, ← rs_lb_v x h0]
        refine rs_xpf hP hq (rs_v_in x t).1 (rs_v_in x t).2 l1 l2 ?_
        intro p q' d' du' lc' fo' sz' k1 k2 k3 k4 k5 k6
        refine K (nI p) q' d' du' lc' fo' sz' k2 k3 (fun h => absurd (Or.inr m2.symm) h) k4 k5 ⟨fun _ => ⟨p, k1, rfl, ?_⟩, fun h => absurd (And.intro oa ⟨ob, Or.inr (Or.inl m2.symm)⟩) h⟩
        rw [k6, e1, e2, rs_lr_m a b (Or.inr m2.symm)]
      · have hm : ¬ (rs_s t = x ∨ rs_r t = x) := by omega
        have hS : ∀ (h : rs_ok x (rs_N t a b)), rs_lr x (rs_N t a b) = rs_lr x a → post (nI p1) (c, kn, nI q, rn, sc, tk, sp, pa, du, lc, fo, sz, pr) := fun h e => K (nI p1) q d du lc fo sz (Nat.le_refl q) (by omega) (fun _ => rfl) hP (fun _ _ => rfl) ⟨fun _ => ⟨p1, l1, rfl, by rw [e1, e]⟩, fun h' => absurd h h'⟩
        by_cases h16 : t ≤ 16
        · rw [rs_ar1 h0 h16]
          exact br_t rfl (hS (And.intro oa ⟨ob, Or.inr (Or.inr (Or.inl h16))⟩) (rs_lr_1 a b hm h16))
        · rw [rs_ar2 (by omega)]
          refine br_f (by decide) (pk_eq p1 p2 (fun e => ?_) (fun e => ?_))
          · have e' : rs_lr x a = rs_lr x b := by rw [← e1, ← e2, e]
            exact hS (And.intro oa ⟨ob, Or.inr (Or.inr (Or.inr e'))⟩) ((rs_lr_2 a b hm h16).trans e'.symm)
          · refine hN (fun h => ?_)
            obtain ⟨_, _, h'⟩ := h
            rcases h' with h' | h' | h' | h'
            · exact hm (Or.inl h')
            · exact hm (Or.inr h')
            · exact h16 h'
            · exact e (hP.2.2.2.2 p1 p2 l1 l2 (by rw [e1, e2, h']))
    · obtain ⟨p1, l1, rfl, e1⟩ := ha.1 oa
      exact br_f (rs_nm1 (by omega)) (br_t (hb.2 ob) (hN (fun h => ob h.2.1)))
  · exact br_t (ha.2 oa) (hN (fun h => oa h.1))
/-! a tree whose first token lies at o: its span, and its parts -/
def rs_ti (d : Nat → rs_T) (q : Nat) (sp pa : Nat → Int32) (o : Nat) (g : rs_T) : Prop := sp o = nI (rs_sr 16 g).length ∧ ∀ x, x < 4 → rs_pe d q (pa (4 * o + x)) (rs_ok x g) (rs_lr x g)
theorem rs_ti_mono {d d' : Nat → rs_T} {q q' o : Nat} {sp sp' pa pa' : Nat → Int32} {g : rs_T} (hq : q ≤ q') (hd : ∀ i, i < q → d' i = d i) (hs : sp' o = sp o) (hp : ∀ x, x < 4 → pa' (4 * o + x) = pa (4 * o + x)) (h : rs_ti d q sp pa o g) : rs_ti d' q' sp' pa' o g :=
  ⟨hs.trans h.1, fun x hx => by rw [hp x hx]; exact rs_pe_mono hq hd (h.2 x hx)⟩
/-- the plans behind the token at o -/
def rs_ci (d : Nat → rs_T) (q : Nat) (sp pa : Nat → Int32) (o : Nat) : rs_T → Prop
  | .leaf _ => True
  | .branch t a b => rs_ti d q sp pa (o + 1) a ∧ (16 < t → rs_ti d q sp pa (o + 1 + (rs_sr 16 a).length) b)
theorem rs_ci_mono {d d' : Nat → rs_T} {q q' o : Nat} {sp sp' pa pa' : Nat → Int32} (g : rs_T) (hq : q ≤ q') (hd : ∀ i, i < q → d' i = d i) (hs : ∀ j, o < j → sp' j = sp j) (hp : ∀ j, 4 * (o + 1) ≤ j → pa' j = pa j) (h : rs_ci d q sp pa o g) : rs_ci d' q' sp' pa' o g := by
  cases g with
  | leaf u => exact trivial
  | branch t a b => exact And.intro (rs_ti_mono hq hd (hs _ (by omega)) (fun x _ => hp _ (by omega)) h.1) (fun h16 => rs_ti_mono hq hd (hs _ (by omega)) (fun x _ => hp _ (by omega)) (h.2 h16))
theorem rs_xproj {post : Int32 → SX → Prop} {q o x : Nat} {d : Nat → rs_T} (g : rs_T) (hg : rs_G g) (hci : rs_ci d q sp pa o g) (ht : tk o = nI (rs_hd g)) (hx : x < 4) (ho : o + (rs_sr 16 g).length ≤ 21) (hP : rs_PL q d du lc fo sz) (hq : q < 48) (K : ∀ (y : Int32) (q' : Nat) (d' : Nat → rs_T) (du' lc' fo' sz' : Nat → Int32), q ≤ q' → q' ≤ q + 1 → (¬ (rs_s (rs_hd g) = x ∨ rs_r (rs_hd g) = x) → q' = q) → rs_PL q' d' du' lc' fo' sz' → (∀ i, i < q → d' i = d i) → rs_pe d' q' y (rs_ok x g) (rs_lr x g) → post y (c, kn, nI q', rn, sc, tk, sp, pa, du', lc', fo', sz', pr)) : wpX_project post (c, kn, nI q, rn, sc, tk, sp, pa, du, lc, fo, sz, pr) (nI o) (nI (rs_ar (rs_hd g))) (nI x) := by
  cases g with
  | leaf u =>
    refine br_t rfl ?_
    exact K 0 q d du lc fo sz (Nat.le_refl q) (by omega) (fun _ => rfl) hP (fun _ _ => rfl) ⟨fun _ => ⟨0, hP.1, rfl, hP.2.1⟩, fun h => absurd trivial h⟩
  | branch t a b =>
    obtain ⟨g0, g1, g2, g3, g4, g5⟩ := hg
    obtain ⟨c1, c2⟩ := hci
    have la := rs_len1 16 a
    have lb := rs_len1 16 b
    have ex : (nI o + 1) * 4 + nI x = nI (4 * (o + 1) + x) := by
      rw [nI_1, show (4 : Int32) = nI 4 from rfl, pk_mul, nI_add]
      exact congrArg nI (by omega)
    show _ ∧ _
    by_cases h16 : t ≤ 16
    · have ho' : o + ((rs_sr 16 a).length + 1) ≤ 21 := by
        rw [← rs_lenN1 a b h16]; exact ho
      have ar : rs_ar (rs_hd (Lean.RArray.branch t a b)) = 1 := rs_ar1 g0 h16
      rw [ar]
      refine br_f (by decide) ⟨?_, nm_r (e' := pa (4 * (o + 1) + x)) ?_ (br_t (by decide) ?_)⟩
      · rw [ex]; exact vp_in_nI (by omega) (by decide)
      · rw [ex, nI_clamp (by omega)]
      · have := rs_xp50 (post := post) (o := o) (t := t) (x := x) (ca := pa (4 * (o + 1) + x)) (cb := 0) (a := a) (b := b) (c := c) (kn := kn) (rn := rn) (sc := sc) (tk := tk) (sp := sp) (pa := pa) (pr := pr) hP hq g0 g1 g5 ht (by omega) (c1.2 x hx) (by rw [g5 h16]; exact ⟨fun _ => ⟨0, hP.1, rfl, hP.2.1⟩, fun h => absurd trivial h⟩) hx K
        rw [rs_ar1 g0 h16] at this
        exact this
    · have ho' : o + ((rs_sr 16 a).length + (rs_sr 16 b).length + 1) ≤ 21 := by
        rw [← rs_lenN2 (h := 16) (t := t) a b (by omega)]; exact ho
      have ar : rs_ar (rs_hd (Lean.RArray.branch t a b)) = 2 := rs_ar2 (by show 16 < t; omega)
      have c3 := c2 (by omega)
      have es : sp (nI o + 1).toNatClampNeg = nI (rs_sr 16 a).length := by
        rw [nI_1, nI_clamp (by omega)]; exact c1.1
      have ey : (nI o + 1 + nI (rs_sr 16 a).length) * 4 + nI x = nI (4 * (o + 1 + (rs_sr 16 a).length) + x) := by
        rw [nI_1, nI_add, show (4 : Int32) = nI 4 from rfl, pk_mul, nI_add]
        exact congrArg nI (by omega)
      rw [ar]
      refine br_f (by decide) ⟨?_, nm_r (e' := pa (4 * (o + 1) + x)) ?_ (br_f (by decide) ?_)⟩
      · rw [ex]; exact vp_in_nI (by omega) (by decide)
      · rw [ex, nI_clamp (by omega)]
      · rw [es, ey, nI_clamp (by omega), nI_1]
        refine ⟨vp_in_nI (by omega) (by decide), vp_in_nI (by omega) (by decide), ?_⟩
        have := rs_xp50 (post := post) (o := o) (t := t) (x := x) (ca := pa (4 * (o + 1) + x)) (cb := pa (4 * (o + 1 + (rs_sr 16 a).length) + x)) (a := a) (b := b) (c := c) (kn := kn) (rn := rn) (sc := sc) (tk := tk) (sp := sp) (pa := pa) (pr := pr) hP hq g0 g1 g5 ht (by omega) (c1.2 x hx) (c3.2 x hx) hx K
        rw [rs_ar2 (by omega)] at this
        exact this
end
end
section
/-! learn: the roles of one token, one token, a tree -/
def rs_cn (t x : Nat) : Nat := (if rs_s t < x then 1 else 0) + (if rs_r t < x then 1 else 0)
theorem rs_cn_s {t x : Nat} (h : rs_s t = x ∨ rs_r t = x) : rs_cn t x + 1 ≤ rs_cn t (x + 1) := by
  unfold rs_cn
  split <;> split <;> split <;> split <;> omega
theorem rs_cn_m (t x : Nat) : rs_cn t x ≤ rs_cn t (x + 1) := by
  unfold rs_cn
  split <;> split <;> split <;> split <;> omega
theorem rs_cn_4 (t x : Nat) : rs_cn t x ≤ 2 := by
  unfold rs_cn
  split <;> split <;> omega
theorem rs_cn_0 (t : Nat) : rs_cn t 0 = 0 := by
  unfold rs_cn
  rw [if_neg (by omega), if_neg (by omega)]
section
variable {c kn pc rn sc : Int32} {tk sp pa du lc fo sz pr : Nat → Int32}
theorem rs_x103 {post : Int32 → SX → Prop} {J : Int32 → Int32 → Int32 → Int32 → Int32 → Int32 → (Nat → Int32) → (Nat → Int32) → (Nat → Int32) → (Nat → Int32) → (Nat → Int32) → (Nat → Int32) → (Nat → Int32) → (Nat → Int32) → Prop} {q0 o : Nat} {d0 : Nat → rs_T} {pa0 : Nat → Int32} (g : rs_T) (hg : rs_G g) (ht : tk o = nI (rs_hd g)) (ho : o + (rs_sr 16 g).length ≤ 21) (hq0 : q0 + 2 < 48) (hs : sp o = nI (rs_sr 16 g).length) (hci : rs_ci d0 q0 sp pa0 o g) (K : ∀ (q' : Nat) (d' : Nat → rs_T) (pa' du' lc' fo' sz' : Nat → Int32), q0 ≤ q' → q' ≤ q0 + 2 → rs_PL q' d' du' lc' fo' sz' → (∀ i, i < q0 → d' i = d0 i) → rs_ti d' q' sp pa' o g → (∀ j, 4 * (o + 1) ≤ j → pa' j = pa0 j) → J (nI o + (-1)) c kn (nI q') rn sc tk sp pa' du' lc' fo' sz' pr) : ∀ (m x q : Nat) (d : Nat → rs_T) (pa du lc fo sz : Nat → Int32), x + m = 4 → q0 ≤ q → q ≤ q0 + rs_cn (rs_hd g) x → rs_PL q d du lc fo sz → (∀ i, i < q0 → d i = d0 i) → (∀ y, y < x → rs_pe d q (pa (4 * o + y)) (rs_ok y g) (rs_lr y g)) → (∀ j, 4 * (o + 1) ≤ j → pa j = pa0 j) → wX_learn_103 post J (nI o) (nI (rs_ar (rs_hd g))) (m + 1) (nI x) c kn (nI q) rn sc tk sp pa du lc fo sz pr := by
  have hl := rs_len1 16 g
  intro m
  induction m with
  | zero =>
    intro x q d pa du lc fo sz hx h1 h2 h3 h4 h5 h6
    have e : x = 4 := by omega
    subst e
    have := rs_cn_4 (rs_hd g) 4
    exact br_t (nI_le (Nat.le_refl 4) (by decide)) (nm_e (K q d pa du lc fo sz h1 (by omega) h3 h4 ⟨hs, h5⟩ h6))
  | succ m ih =>
    intro x q d pa du lc fo sz hx h1 h2 h3 h4 h5 h6
    have hc4 := rs_cn_4 (rs_hd g) x
    have hc5 := rs_cn_4 (rs_hd g) (x + 1)
    have hcm := rs_cn_m (rs_hd g) x
    have hcs := @rs_cn_s (rs_hd g) x
    refine br_f (nI_ge (b := 4) (by omega) (by decide)) ?_
    have hq : q < 48 := by omega
    refine rs_xproj g hg (rs_ci_mono g h1 h4 (fun _ _ => rfl) h6 hci) ht (by omega) ho h3 hq ?_
    intro y q' d' du' lc' fo' sz' k1 k2 k3 k4 k5 k6
    have ei : nI o * 4 + nI x = nI (4 * o + x) := by
      rw [show (4 : Int32) = nI 4 from rfl, pk_mul, nI_add]
      exact congrArg nI (by omega)
    have hy : vp_nar .byte y.toInt8.toInt32 = y := by
      by_cases ok : rs_ok x g
      · obtain ⟨p, p1, rfl, p3⟩ := k6.1 ok
        exact rs_nb (by omega)
      · rw [k6.2 ok]
        exact rs_nbm
    show vp_in (nI o * 4 + nI x) 84 ∧ _
    refine ⟨by rw [ei]; exact vp_in_nI (by omega) (by decide), nm_r (e' := upd pa (4 * o + x) y) (by rw [ei, nI_clamp (by omega), hy]) (nm_r (nI_1 x) ?_)⟩
    refine ih (x + 1) q' d' (upd pa (4 * o + x) y) du' lc' fo' sz' (by omega) (by omega) ?_ k4 (fun i hi => (k5 i (by omega)).trans (h4 i hi)) ?_ (fun j hj => (pk_un (by omega)).trans (h6 j hj))
    · by_cases hm : rs_s (rs_hd g) = x ∨ rs_r (rs_hd g) = x
      · have := hcs hm
        omega
      · have := k3 hm
        omega
    · intro z hz
      by_cases e : z = x
      · rw [e, pk_us]
        exact k6
      · rw [pk_un (by omega)]
        exact rs_pe_mono k1 k5 (h5 z (by omega))
theorem rs_xstep {post : Int32 → SX → Prop} {q o n : Nat} {d : Nat → rs_T} (g : rs_T) (hg : rs_G g) (ht : tk o = nI (rs_hd g)) (ho : o + (rs_sr 16 g).length ≤ 21) (hq : q + 2 < 48) (hP : rs_PL q d du lc fo sz) (hci : rs_ci d q sp pa o g) (K : ∀ (q' : Nat) (d' : Nat → rs_T) (sp' pa' du' lc' fo' sz' : Nat → Int32), q ≤ q' → q' ≤ q + 2 → rs_PL q' d' du' lc' fo' sz' → (∀ i, i < q → d' i = d i) → rs_ti d' q' sp' pa' o g → (∀ j, o < j → sp' j = sp j) → (∀ j, 4 * (o + 1) ≤ j → pa' j = pa j) → wX_learn_35 post n (nI o + (-1)) c kn (nI q') rn sc tk sp' pa' du' lc' fo' sz' pr) : wX_learn_35 post (n + 1) (nI o) c kn (nI q) rn sc tk sp pa du lc fo sz pr := by
  have hl := rs_len1 16 g
  have i21 : vp_in (nI o) 21 := vp_in_nI (by omega) (by decide)
  have hu : ∀ j, o < j → upd sp o (nI (rs_sr 16 g).length) j = sp j := fun j hj => pk_un (by omega)
  have L : wX_learn_103 post (wX_learn_35 post n) (nI o) (nI (rs_ar (rs_hd g))) (4 + 1) (nI 0) c kn (nI q) rn sc tk (upd sp o (nI (rs_sr 16 g).length)) pa du lc fo sz pr := by
    refine rs_x103 (q0 := q) (d0 := d) (pa0 := pa) g hg ht ho hq pk_us (rs_ci_mono g (Nat.le_refl q) (fun _ _ => rfl) hu (fun _ _ => rfl) hci) ?_ 4 0 q d pa du lc fo sz rfl (Nat.le_refl q) (by omega) hP (fun _ _ => rfl) (fun y hy => by omega) (fun _ _ => rfl)
    intro q' d' pa' du' lc' fo' sz' k1 k2 k3 k4 k5 k6
    exact K q' d' _ pa' du' lc' fo' sz' k1 k2 k3 k4 k5 hu k6
  have F : ∀ z w : Int32, 1 + z + w = nI (rs_sr 16 g).length → wX_learn_85 post (wX_learn_35 post n) (nI o) (nI (rs_ar (rs_hd g))) z w c kn (nI q) rn sc tk sp pa du lc fo sz pr := by
    intro z w e
    refine And.intro i21 (nm_r (e' := upd sp o (nI (rs_sr 16 g).length)) ?_ ⟨5, L⟩)
    rw [nI_clamp (by omega), e, rs_nb (by omega)]
  refine br_f (nI_pos (by omega)) ⟨i21, ?_⟩
  rw [nI_clamp (by omega), ht]
  cases g with
  | leaf u =>
    refine rs_xlab (by show 0 ≤ 32; omega) (br_t (show nI 0 ≤ 0 by decide) (br_t (show nI 0 ≤ 1 by decide) ?_))
    exact F 0 0 (show (1 : Int32) + 0 + 0 = nI 1 by decide)
  | branch t a b =>
    obtain ⟨g0, g1, g2, g3, g4, g5⟩ := hg
    have la := rs_len1 16 a
    have lb := rs_len1 16 b
    have c1 : sp (o + 1) = nI (rs_sr 16 a).length := hci.1.1
    refine rs_xlab (by show t ≤ 32; omega) ?_
    by_cases h16 : t ≤ 16
    · have hN : (rs_sr 16 (Lean.RArray.branch t a b)).length = (rs_sr 16 a).length + 1 := rs_lenN1 a b h16
      have ar : rs_ar (rs_hd (Lean.RArray.branch t a b)) = 1 := rs_ar1 g0 h16
      have hz : (1 : Int32) + nI (rs_sr 16 a).length + 0 = nI (rs_sr 16 (Lean.RArray.branch t a b)).length := by
        rw [Int32.add_zero, show (1 : Int32) = nI 1 from rfl, nI_add]
        exact congrArg nI (by rw [hN]; omega)
      have F' := F _ _ hz
      rw [ar] at F' ⊢
      refine br_f (by decide) ?_
      rw [nI_1, nI_clamp (by omega), c1]
      refine ⟨vp_in_nI (by omega) (by decide), ?_⟩
      exact br_t (by decide) F'
    · have hN : (rs_sr 16 (Lean.RArray.branch t a b)).length = (rs_sr 16 a).length + (rs_sr 16 b).length + 1 := rs_lenN2 a b (h := 16) (t := t) (by omega)
      have ar : rs_ar (rs_hd (Lean.RArray.branch t a b)) = 2 := rs_ar2 (by show 16 < t; omega)
      have c2 : sp (o + 1 + (rs_sr 16 a).length) = nI (rs_sr 16 b).length := (hci.2 (by omega)).1
      have hz : (1 : Int32) + nI (rs_sr 16 a).length + nI (rs_sr 16 b).length = nI (rs_sr 16 (Lean.RArray.branch t a b)).length := by
        rw [show (1 : Int32) = nI 1 from rfl, nI_add, nI_add]
        exact congrArg nI (by rw [hN]; omega)
      have F' := F _ _ hz
      rw [ar] at F' ⊢
      refine br_f (by decide) ?_
      rw [nI_1, nI_clamp (by omega), c1]
      refine ⟨vp_in_nI (by omega) (by decide), ?_⟩
      refine br_f (by decide) ?_
      rw [nI_1, nI_add, nI_clamp (by omega), c2]
      exact ⟨vp_in_nI (by omega) (by decide), F'⟩
theorem rs_xtree {post : Int32 → SX → Prop} (g : rs_T) : rs_G g → ∀ (o n q : Nat) (d : Nat → rs_T) (sp pa du lc fo sz : Nat → Int32), rs_sg tk o (rs_sr 16 g) → o + (rs_sr 16 g).length ≤ 21 → q + 2 * (rs_sr 16 g).length < 48 → rs_PL q d du lc fo sz → (∀ (q' : Nat) (d' : Nat → rs_T) (sp' pa' du' lc' fo' sz' : Nat → Int32), q ≤ q' → q' ≤ q + 2 * (rs_sr 16 g).length → rs_PL q' d' du' lc' fo' sz' → (∀ i, i < q → d' i = d i) → rs_ti d' q' sp' pa' o g → (∀ j, o + (rs_sr 16 g).length ≤ j → sp' j = sp j) → (∀ j, 4 * (o + (rs_sr 16 g).length) ≤ j → pa' j = pa j) → wX_learn_35 post n (nI o + (-1)) c kn (nI q') rn sc tk sp' pa' du' lc' fo' sz' pr) → wX_learn_35 post (n + (rs_sr 16 g).length) (nI (o + (rs_sr 16 g).length) + (-1)) c kn (nI q) rn sc tk sp pa du lc fo sz pr := by
  induction g with
  | leaf u =>
    intro hg o n q d sp pa du lc fo sz hs ho hq hP K
    show wX_learn_35 post (n + 1) (nI (o + 1) + (-1)) _ _ _ _ _ _ _ _ _ _ _ _ _
    rw [pk_m1]
    exact rs_xstep rs_E trivial (rs_sg_hd hs) ho hq hP trivial (fun q' d' sp' pa' du' lc' fo' sz' k1 k2 k3 k4 k5 k6 k7 => K q' d' sp' pa' du' lc' fo' sz' k1 k2 k3 k4 k5 k6 k7)
  | branch t a b ia ib =>
    intro hg o n q d sp pa du lc fo sz hs ho hq hP K
    have hg' := hg
    obtain ⟨g0, g1, g2, g3, g4, g5⟩ := hg'
    have hd := rs_sg_hd hs
    by_cases h16 : t ≤ 16
    · have hN := rs_lenN1 a b h16
      obtain ⟨_, hsa⟩ := rs_sg1 a b h16 hs
      rw [show rs_sr 16 (Lean.RArray.branch t a b) = rs_sr 16 (rs_N t a b) from rfl] at ho hq K ⊢
      have E1 : n + (rs_sr 16 (rs_N t a b)).length = (n + 1) + (rs_sr 16 a).length := by omega
      have E2 : o + (rs_sr 16 (rs_N t a b)).length = (o + 1) + (rs_sr 16 a).length := by omega
      rw [E1, E2]
      refine ia g3 (o + 1) (n + 1) q d sp pa du lc fo sz hsa (by omega) (by omega) hP ?_
      intro q1 d1 sp1 pa1 du1 lc1 fo1 sz1 k1 k2 k3 k4 k5 k6 k7
      rw [pk_m1]
      refine rs_xstep (rs_N t a b) hg hd ho (by omega) k3 (And.intro k5 (fun h => absurd h (by omega))) ?_
      intro q2 d2 sp2 pa2 du2 lc2 fo2 sz2 j1 j2 j3 j4 j5 j6 j7
      exact K q2 d2 sp2 pa2 du2 lc2 fo2 sz2 (by omega) (by omega) j3 (fun i hi => (j4 i (by omega)).trans (k4 i hi)) j5 (fun j hj => (j6 j (by omega)).trans (k6 j (by omega))) (fun j hj => (j7 j (by omega)).trans (k7 j (by omega)))
    · have hN := rs_lenN2 a b (h := 16) (t := t) (by omega)
      obtain ⟨_, hsa, hsb⟩ := rs_sg2 a b (by omega) hs
      rw [show rs_sr 16 (Lean.RArray.branch t a b) = rs_sr 16 (rs_N t a b) from rfl] at ho hq K ⊢
      have E1 : n + (rs_sr 16 (rs_N t a b)).length = (n + 1 + (rs_sr 16 a).length) + (rs_sr 16 b).length := by omega
      have E2 : o + (rs_sr 16 (rs_N t a b)).length = (o + 1 + (rs_sr 16 a).length) + (rs_sr 16 b).length := by omega
      rw [E1, E2]
      refine ib g4 (o + 1 + (rs_sr 16 a).length) (n + 1 + (rs_sr 16 a).length) q d sp pa du lc fo sz hsb (by omega) (by omega) hP ?_
      intro q0 d0 sp0 pa0 du0 lc0 fo0 sz0 i1 i2 i3 i4 i5 i6 i7
      refine ia g3 (o + 1) (n + 1) q0 d0 sp0 pa0 du0 lc0 fo0 sz0 hsa (by omega) (by omega) i3 ?_
      intro q1 d1 sp1 pa1 du1 lc1 fo1 sz1 k1 k2 k3 k4 k5 k6 k7
      rw [pk_m1]
      refine rs_xstep (rs_N t a b) hg hd ho (by omega) k3 (And.intro k5 (fun _ => rs_ti_mono k1 k4 (k6 _ (by omega)) (fun x _ => k7 _ (by omega)) i5)) ?_
      intro q2 d2 sp2 pa2 du2 lc2 fo2 sz2 j1 j2 j3 j4 j5 j6 j7
      exact K q2 d2 sp2 pa2 du2 lc2 fo2 sz2 (by omega) (by omega) j3 (fun i hi => ((j4 i (by omega)).trans (k4 i (by omega))).trans (i4 i hi)) j5 (fun j hj => ((j6 j (by omega)).trans (k6 j (by omega))).trans (i6 j (by omega))) (fun j hj => ((j7 j (by omega)).trans (k7 j (by omega))).trans (i7 j (by omega)))
/-! learn as a whole -/
/-- what is known of the plan g -/
def rs_KN (g : rs_T) (q : Nat) (d : Nat → rs_T) (pa du lc fo sz : Nat → Int32) : Prop := rs_PL q d du lc fo sz ∧ q < 48 ∧ ∀ x, x < 4 → rs_pe d q (pa x) (rs_ok x g) (rs_lr x g)
theorem rs_xlearnN {post : Int32 → SX → Prop} {l : List Nat} (hs : rs_sg tk 0 l) (ht : ∀ t, t ∈ l → rs_tok t) (hv : rs_vd 1 l) (hl : l.length ≤ 21) (hc : c = nI l.length) (hn : rs_nd 1 l ≠ 0) (hp : post 0 (c, kn, pc, rn, sc, tk, sp, pa, du, lc, fo, sz, pr)) : wpX_learn post (c, kn, pc, rn, sc, tk, sp, pa, du, lc, fo, sz, pr) := by
  unfold wpX_learn
  exact rs_xcomp hs ht hv hl hc (fun h => absurd h hn) (fun _ => br_t rfl hp)
theorem rs_xlearnK {post : Int32 → SX → Prop} {l : List Nat} (hs : rs_sg tk 0 l) (ht : ∀ t, t ∈ l → rs_tok t) (hv : rs_vd 1 l) (hl : l.length ≤ 21) (hc : c = nI l.length) (hn : rs_nd 1 l = 0) (hk : kn = 1) (hp : post 1 (c, kn, pc, rn, sc, tk, sp, pa, du, lc, fo, sz, pr)) : wpX_learn post (c, kn, pc, rn, sc, tk, sp, pa, du, lc, fo, sz, pr) := by
  unfold wpX_learn
  exact rs_xcomp hs ht hv hl hc (fun _ => br_f (by decide) (br_f (by rw [hk]; decide) hp)) (fun h => absurd hn h)
theorem rs_xlearnF {post : Int32 → SX → Prop} {g : rs_T} (hg : rs_G g) (hs : rs_sg tk 0 (rs_sr 16 g)) (ht : ∀ t, t ∈ rs_sr 16 g → rs_tok t) (hv : rs_vd 1 (rs_sr 16 g)) (hl : (rs_sr 16 g).length ≤ 21) (hc : c = nI (rs_sr 16 g).length) (hn : rs_nd 1 (rs_sr 16 g) = 0) (hk : kn = 0) (hz : sz 0 = 0) (K : ∀ (q' : Nat) (d' : Nat → rs_T) (sp' pa' du' lc' fo' sz' : Nat → Int32), rs_KN g q' d' pa' du' lc' fo' sz' → post 1 (c, 1, nI q', rn, sc, tk, sp', pa', du', lc', fo', sz', pr)) : wpX_learn post (c, kn, pc, rn, sc, tk, sp, pa, du, lc, fo, sz, pr) := by
  unfold wpX_learn
  refine rs_xcomp hs ht hv hl hc (fun _ => br_f (by decide) (br_t hk ?_)) (fun h => absurd hn h)
  refine nm_r (e' := nI (0 + (rs_sr 16 g).length) + (-1)) (by rw [hc, rs_m1, Nat.zero_add]) ⟨1 + (rs_sr 16 g).length, ?_⟩
  refine rs_xtree g hg 0 1 1 (fun _ => rs_E) sp pa du lc fo sz hs (by omega) (by omega) (rs_PL_1 hz) ?_
  intro q' d' sp' pa' du' lc' fo' sz' k1 k2 k3 k4 k5 k6 k7
  refine br_t (by decide) (K q' d' sp' pa' du' lc' fo' sz' ⟨k3, by omega, fun x hx => ?_⟩)
  have := k5.2 x hx
  rw [show 4 * 0 + x = x by omega] at this
  exact this
end
end
section
/-! X against the pure state -/
def rs_XR (hh : Option rs_T) (rn : Int32) (pr : Nat → Int32) (q : Nat) (d : Nat → rs_T) : Prop := (hh = none ∧ rn = 0) ∨ ∃ h, hh = some h ∧ rn = 1 ∧ ∀ x, x < 4 → ∃ p, p < q ∧ pr x = nI p ∧ d p = rs_lr x h
def rs_X0 (l : List Nat) (s : Int32) (u : SX) : Prop := match u with
  | (c, kn, pc, rn, sc, tk, sp, pa, du, lc, fo, sz, pr) => c = nI l.length ∧ rs_sg tk 0 l ∧ sc = s ∧ sz 0 = 0 ∧ kn = 0 ∧ rn = 0
def rs_XK (g : rs_T) (hh : Option rs_T) (s : Int32) (u : SX) : Prop := match u with
  | (c, kn, pc, rn, sc, tk, sp, pa, du, lc, fo, sz, pr) => c = nI (rs_sr 16 g).length ∧ rs_sg tk 0 (rs_sr 16 g) ∧ sc = s ∧ sz 0 = 0 ∧ kn = 1 ∧ ∃ (q : Nat) (d : Nat → rs_T), pc = nI q ∧ rs_KN g q d pa du lc fo sz ∧ rs_XR hh rn pr q d
def rs_XS (l : List Nat) (hh : Option rs_T) (s : Int32) (u : SX) : Prop := (hh = none ∧ rs_X0 l s u) ∨ ∃ g, rs_G g ∧ l = rs_sr 16 g ∧ rs_XK g hh s u
theorem rs_XS_K {g : rs_T} {hh : Option rs_T} {s : Int32} {u : SX} (hg : rs_G g) (h : rs_XK g hh s u) : rs_XS (rs_sr 16 g) hh s u := Or.inr ⟨g, hg, rfl, h⟩
theorem rs_XS_U {g : rs_T} {hh : Option rs_T} {s : Int32} {u : SX} (hg : rs_G g) (h : rs_XS (rs_sr 16 g) hh s u) : (hh = none ∧ rs_X0 (rs_sr 16 g) s u) ∨ rs_XK g hh s u := by
  rcases h with h | ⟨g', hg', e, h⟩
  · exact Or.inl h
  · rw [rs_inj0 (rs_G_W g hg) (rs_G_W g' hg') e]
    exact Or.inr h
theorem rs_XS_b {l : List Nat} {hh : Option rs_T} {s : Int32} {c kn pc rn sc : Int32} {tk sp pa du lc fo sz pr : Nat → Int32} (h : rs_XS l hh s (c, kn, pc, rn, sc, tk, sp, pa, du, lc, fo, sz, pr)) : c = nI l.length ∧ rs_sg tk 0 l ∧ sc = s ∧ sz 0 = 0 := by
  rcases h with ⟨_, h⟩ | ⟨g, _, rfl, h⟩
  · exact ⟨h.1, h.2.1, h.2.2.1, h.2.2.2.1⟩
  · exact ⟨h.1, h.2.1, h.2.2.1, h.2.2.2.1⟩
theorem rs_Xcomp {l : List Nat} {hh : Option rs_T} {s : Int32} {u : SX} {post : Int32 → Prop} (hA : rs_A l hh) (h : rs_XS l hh s u) (h1 : rs_nd 1 l = 0 → post 1) (h0 : rs_nd 1 l ≠ 0 → post 0) : wpX_complete post u := by
  obtain ⟨c, kn, pc, rn, sc, tk, sp, pa, du, lc, fo, sz, pr⟩ := u
  obtain ⟨b1, b2, b3, b4⟩ := rs_XS_b h
  exact rs_xcomp b2 hA.1 hA.2.1 hA.2.2.1 b1 h1 h0
theorem rs_XlearnN {l : List Nat} {hh : Option rs_T} {s : Int32} {u : SX} {post : Int32 → SX → Prop} (hA : rs_A l hh) (h : rs_XS l hh s u) (hn : rs_nd 1 l ≠ 0) (hp : post 0 u) : wpX_learn post u := by
  obtain ⟨c, kn, pc, rn, sc, tk, sp, pa, du, lc, fo, sz, pr⟩ := u
  obtain ⟨b1, b2, b3, b4⟩ := rs_XS_b h
  exact rs_xlearnN b2 hA.1 hA.2.1 hA.2.2.1 b1 hn hp
theorem rs_Xlearn {g : rs_T} {hh : Option rs_T} {s : Int32} {u : SX} {post : Int32 → SX → Prop} (hg : rs_G g) (hA : rs_A (rs_sr 16 g) hh) (h : rs_XS (rs_sr 16 g) hh s u) (K : ∀ u', rs_XK g hh s u' → post 1 u') : wpX_learn post u := by
  obtain ⟨c, kn, pc, rn, sc, tk, sp, pa, du, lc, fo, sz, pr⟩ := u
  rcases rs_XS_U hg h with ⟨hh0, h⟩ | h
  · obtain ⟨b1, b2, b3, b4, b5, b6⟩ := h
    refine rs_xlearnF hg b2 hA.1 hA.2.1 hA.2.2.1 b1 (rs_nd_sr1 hg) b5 b4 ?_
    intro q' d' sp' pa' du' lc' fo' sz' hK
    exact K _ (And.intro b1 ⟨b2, b3, hK.1.2.2.1, rfl, q', d', rfl, hK, Or.inl ⟨hh0, b6⟩⟩)
  · have h' := h
    obtain ⟨b1, b2, b3, b4, b5, b6⟩ := h'
    exact rs_xlearnK b2 hA.1 hA.2.1 hA.2.2.1 b1 (rs_nd_sr1 hg) b5 (K _ h)
theorem rs_Xfix0 {x : Int32} {u : SX} {post : Int32 → SX → Prop} (hx : ∀ r, r < 4 → x ≠ nI r) (hp : post 0 u) : wpX_fixed post u x := by
  obtain ⟨c, kn, pc, rn, sc, tk, sp, pa, du, lc, fo, sz, pr⟩ := u
  unfold wpX_fixed
  exact rs_xrole0 hx (br_t rfl hp)
theorem rs_XfixN {l : List Nat} {hh : Option rs_T} {s : Int32} {u : SX} {post : Int32 → SX → Prop} {x : Nat} (hx : x < 4) (hA : rs_A l hh) (h : rs_XS l hh s u) (hn : rs_nd 1 l ≠ 0) (hp : post 0 u) : wpX_fixed post u (nI x) := by
  obtain ⟨c, kn, pc, rn, sc, tk, sp, pa, du, lc, fo, sz, pr⟩ := u
  unfold wpX_fixed
  exact rs_xrole1 hx (br_f (by decide) (rs_XlearnN hA h hn (br_t rfl hp)))
theorem rs_Xfix {g : rs_T} {hh : Option rs_T} {s : Int32} {u : SX} {post : Int32 → SX → Prop} {x : Nat} (hx : x < 4) (hg : rs_G g) (hA : rs_A (rs_sr 16 g) hh) (h : rs_XS (rs_sr 16 g) hh s u) (K1 : ∀ u', rs_XK g hh s u' → rs_ok x g → post 1 u') (K0 : ∀ u', rs_XK g hh s u' → ¬ rs_ok x g → post 0 u') : wpX_fixed post u (nI x) := by
  obtain ⟨c, kn, pc, rn, sc, tk, sp, pa, du, lc, fo, sz, pr⟩ := u
  unfold wpX_fixed
  refine rs_xrole1 hx (br_f (by decide) (rs_Xlearn hg hA h ?_))
  intro u' hK
  obtain ⟨c, kn, pc, rn, sc, tk, sp, pa, du, lc, fo, sz, pr⟩ := u'
  have hK' := hK
  obtain ⟨b1, b2, b3, b4, b5, q, d, b6, b7, b8⟩ := hK'
  have hp := b7.2.2 x hx
  have hc : (nI x).toNatClampNeg = x := nI_clamp (by omega)
  refine br_f (by decide) ⟨vp_in_nI (by omega) (by decide), ?_⟩
  by_cases ok : rs_ok x g
  · obtain ⟨p, p1, p2, p3⟩ := hp.1 ok
    have hq := b7.2.1
    refine br_f ?_ (K1 _ hK ok)
    rw [hc, p2]
    exact rs_nm1 (by omega)
  · refine br_t ?_ (K0 _ hK ok)
    rw [hc]
    exact hp.2 ok
theorem rs_XfitN {l : List Nat} {hh : Option rs_T} {s : Int32} {u : SX} {post : Int32 → SX → Prop} (hA : rs_A l hh) (h : rs_XS l hh s u) (hn : rs_nd 1 l ≠ 0) (hp : post 0 u) : wpX_fit post u := by
  obtain ⟨c, kn, pc, rn, sc, tk, sp, pa, du, lc, fo, sz, pr⟩ := u
  unfold wpX_fit
  exact rs_XfixN (x := 0) (by decide) hA h hn (br_t rfl hp)
theorem rs_Xfit {g : rs_T} {hh : Option rs_T} {s : Int32} {u : SX} {post : Int32 → SX → Prop} (hg : rs_G g) (hA : rs_A (rs_sr 16 g) hh) (h : rs_XS (rs_sr 16 g) hh s u) (K1 : ∀ u', rs_XK g hh s u' → (∀ x, x < 4 → rs_ok x g) → post 1 u') (K0 : ∀ u', rs_XK g hh s u' → ¬ (∀ x, x < 4 → rs_ok x g) → post 0 u') : wpX_fit post u := by
  obtain ⟨c, kn, pc, rn, sc, tk, sp, pa, du, lc, fo, sz, pr⟩ := u
  unfold wpX_fit
  refine rs_Xfix (x := 0) (by decide) hg hA h ?_ (fun u' hu ok => ?_)
  · intro u' hu ok0
    obtain ⟨c, kn, pc, rn, sc, tk, sp, pa, du, lc, fo, sz, pr⟩ := u'
    refine br_f (by decide) ?_
    refine rs_Xfix (x := 1) (by decide) hg hA (rs_XS_K hg hu) ?_ (fun u' hu ok => ?_)
    · intro u' hu ok1
      obtain ⟨c, kn, pc, rn, sc, tk, sp, pa, du, lc, fo, sz, pr⟩ := u'
      refine br_f (by decide) ?_
      refine rs_Xfix (x := 2) (by decide) hg hA (rs_XS_K hg hu) ?_ (fun u' hu ok => ?_)
      · intro u' hu ok2
        obtain ⟨c, kn, pc, rn, sc, tk, sp, pa, du, lc, fo, sz, pr⟩ := u'
        refine br_f (by decide) ?_
        refine rs_Xfix (x := 3) (by decide) hg hA (rs_XS_K hg hu) ?_ (fun u' hu ok => ?_)
        · intro u' hu ok3
          obtain ⟨c, kn, pc, rn, sc, tk, sp, pa, du, lc, fo, sz, pr⟩ := u'
          refine br_f (by decide) (K1 _ hu (fun x hx => ?_))
          rcases (show x = 0 ∨ x = 1 ∨ x = 2 ∨ x = 3 by omega) with e | e | e | e
          · rw [e]; exact ok0
          · rw [e]; exact ok1
          · rw [e]; exact ok2
          · rw [e]; exact ok3
        · obtain ⟨c, kn, pc, rn, sc, tk, sp, pa, du, lc, fo, sz, pr⟩ := u'
          exact br_t rfl (K0 _ hu (fun hx => ok (hx 3 (by decide))))
      · obtain ⟨c, kn, pc, rn, sc, tk, sp, pa, du, lc, fo, sz, pr⟩ := u'
        exact br_t rfl (K0 _ hu (fun hx => ok (hx 2 (by decide))))
    · obtain ⟨c, kn, pc, rn, sc, tk, sp, pa, du, lc, fo, sz, pr⟩ := u'
      exact br_t rfl (K0 _ hu (fun hx => ok (hx 1 (by decide))))
  · obtain ⟨c, kn, pc, rn, sc, tk, sp, pa, du, lc, fo, sz, pr⟩ := u'
    exact br_t rfl (K0 _ hu (fun hx => ok (hx 0 (by decide))))
theorem rs_Xsize0 {x : Int32} {u : SX} {post : Int32 → SX → Prop} (hx : ∀ r, r < 4 → x ≠ nI r) (hp : post (-1) u) : wpX_size post u x := by
  obtain ⟨c, kn, pc, rn, sc, tk, sp, pa, du, lc, fo, sz, pr⟩ := u
  unfold wpX_size
  exact rs_Xfix0 hx (br_t rfl hp)
theorem rs_XsizeN {l : List Nat} {hh : Option rs_T} {s : Int32} {u : SX} {post : Int32 → SX → Prop} {x : Nat} (hx : x < 4) (hA : rs_A l hh) (h : rs_XS l hh s u) (hn : rs_nd 1 l ≠ 0) (hp : post (-1) u) : wpX_size post u (nI x) := by
  obtain ⟨c, kn, pc, rn, sc, tk, sp, pa, du, lc, fo, sz, pr⟩ := u
  unfold wpX_size
  exact rs_XfixN hx hA h hn (br_t rfl hp)
theorem rs_Xsize {g : rs_T} {hh : Option rs_T} {s : Int32} {u : SX} {post : Int32 → SX → Prop} {x : Nat} (hx : x < 4) (hg : rs_G g) (hA : rs_A (rs_sr 16 g) hh) (h : rs_XS (rs_sr 16 g) hh s u) (K1 : ∀ u', rs_XK g hh s u' → rs_ok x g → post (nI (rs_sz (rs_lr x g))) u') (K0 : ∀ u', rs_XK g hh s u' → ¬ rs_ok x g → post (-1) u') : wpX_size post u (nI x) := by
  obtain ⟨c, kn, pc, rn, sc, tk, sp, pa, du, lc, fo, sz, pr⟩ := u
  unfold wpX_size
  refine rs_Xfix hx hg hA h (fun u' hK ok => ?_) (fun u' hK ok => ?_)
  · obtain ⟨c, kn, pc, rn, sc, tk, sp, pa, du, lc, fo, sz, pr⟩ := u'
    have hK' := hK
    obtain ⟨b1, b2, b3, b4, b5, q, d, b6, b7, b8⟩ := hK'
    obtain ⟨p, p1, p2, p3⟩ := (b7.2.2 x hx).1 ok
    have hq := b7.2.1
    have hc : pa (nI x).toNatClampNeg = nI p := by rw [nI_clamp (by omega), p2]
    refine br_f (by decide) ⟨vp_in_nI (by omega) (by decide), ?_⟩
    rw [hc, nI_clamp (by omega), rs_PL_sz b7.1 p1, p3]
    exact ⟨vp_in_nI (by omega) (by decide), K1 _ hK ok⟩
  · obtain ⟨c, kn, pc, rn, sc, tk, sp, pa, du, lc, fo, sz, pr⟩ := u'
    exact br_t rfl (K0 _ hK ok)
end
section
/-! X's run -/
theorem rs_PL_p {q p : Nat} {d : Nat → rs_T} {du lc fo sz : Nat → Int32} (hP : rs_PL q d du lc fo sz) (hp : p < q) : (p = 0 ∧ rs_hd (d p) = 0) ∨ (0 < p ∧ 0 < rs_hd (d p) ∧ rs_hd (d p) ≤ 16 ∧ du p = nI (rs_du (rs_hd (d p))) ∧ lc p = nI (rs_lb (rs_hd (d p)))) := by
  obtain ⟨h0, h1, h2, h3, h4⟩ := hP
  by_cases z : p = 0
  · left
    refine ⟨z, ?_⟩
    rw [z, h1]
    rfl
  · right
    obtain ⟨v, a, b, g1, g2, g3, g4, g5, g6, g7, g8, g9, g10⟩ := h3 p (by omega) hp
    rw [g5]
    exact ⟨by omega, g1, g2, g6, g7⟩
theorem rs_PL_f {q p L : Nat} {d : Nat → rs_T} {du lc fo sz : Nat → Int32} (hP : rs_PL q d du lc fo sz) (hp : p < q) (h : 0 < rs_hd (d p)) (hL : L < 2) : ∃ m, m < q ∧ fo (2 * p + L) = nI m ∧ d m = rs_ch L (d p) := by
  obtain ⟨h0, h1, h2, h3, h4⟩ := hP
  have z : p ≠ 0 := by
    intro z
    rw [z, h1] at h
    exact absurd h (by decide)
  obtain ⟨v, a, b, g1, g2, g3, g4, g5, g6, g7, g8, g9, g10⟩ := h3 p (by omega) hp
  rw [g5]
  by_cases l0 : L = 0
  · subst l0
    exact ⟨a, by omega, g8, rfl⟩
  · have l1 : L = 1 := by omega
    subst l1
    exact ⟨b, by omega, g9, rfl⟩
section
variable {c kn pc rn sc : Int32} {tk sp pa du lc fo sz pr : Nat → Int32}
theorem rs_x21 {post : Int32 → SX → Prop} (hpa : ∀ x, x < 4 → ∃ p, p < 48 ∧ pa x = nI p) (K : ∀ pr' : Nat → Int32, (∀ x, x < 4 → pr' x = pa x) → post 1 (c, kn, pc, rn, sc, tk, sp, pa, du, lc, fo, sz, pr')) : ∀ (m x : Nat) (pr : Nat → Int32), x + m = 4 → (∀ y, y < x → pr y = pa y) → wX_start_21 post c kn pc rn sc (m + 1) (nI x) tk sp pa du lc fo sz pr := by
  intro m
  induction m with
  | zero =>
    intro x pr hx h
    have e : x = 4 := by omega
    subst e
    exact br_t (nI_le (Nat.le_refl 4) (by decide)) (K pr h)
  | succ m ih =>
    intro x pr hx h
    obtain ⟨p, p1, p2⟩ := hpa x (by omega)
    have hc : (nI x).toNatClampNeg = x := nI_clamp (by omega)
    refine br_f (nI_ge (b := 4) (by omega) (by decide)) ⟨vp_in_nI (by omega) (by decide), vp_in_nI (by omega) (by decide), nm_r (e' := upd pr x (pa x)) ?_ (nm_r (nI_1 x) ?_)⟩
    · rw [hc, p2, rs_nb0 (by omega)]
    · refine ih (x + 1) _ (by omega) (fun y hy => ?_)
      by_cases e : y = x
      · rw [e, pk_us]
      · rw [pk_un e]
        exact h y (by omega)
end
theorem rs_XstartN {l : List Nat} {hh : Option rs_T} {s : Int32} {u : SX} {post : Int32 → SX → Prop} (hA : rs_A l hh) (h : rs_XS l hh s u) (hn : rs_nd 1 l ≠ 0) (hp : post 0 u) : wpX_start post u := by
  obtain ⟨c, kn, pc, rn, sc, tk, sp, pa, du, lc, fo, sz, pr⟩ := u
  unfold wpX_start
  exact rs_XfitN hA h hn (br_t rfl hp)
theorem rs_Xstart {g : rs_T} {hh : Option rs_T} {s : Int32} {u : SX} {post : Int32 → SX → Prop} (hg : rs_G g) (hA : rs_A (rs_sr 16 g) hh) (h : rs_XS (rs_sr 16 g) hh s u) (K1 : ∀ u', rs_XK g (some g) 0 u' → (∀ x, x < 4 → rs_ok x g) → post 1 u') (K0 : ∀ u', rs_XK g hh s u' → ¬ (∀ x, x < 4 → rs_ok x g) → post 0 u') : wpX_start post u := by
  obtain ⟨c, kn, pc, rn, sc, tk, sp, pa, du, lc, fo, sz, pr⟩ := u
  unfold wpX_start
  refine rs_Xfit hg hA h (fun u' hK ok => ?_) (fun u' hK ok => ?_)
  · obtain ⟨c, kn, pc, rn, sc, tk, sp, pa, du, lc, fo, sz, pr⟩ := u'
    obtain ⟨b1, b2, b3, b4, b5, q, d, b6, b7, b8⟩ := hK
    have hq := b7.2.1
    refine br_f (by decide) ⟨4 + 1, rs_x21 (fun x hx => ?_) ?_ 4 0 pr rfl (fun y hy => by omega)⟩
    · obtain ⟨p, p1, p2, p3⟩ := (b7.2.2 x hx).1 (ok x hx)
      exact ⟨p, by omega, p2⟩
    · intro pr' hpr
      refine K1 _ (And.intro b1 ⟨b2, rfl, b4, b5, q, d, b6, b7, Or.inr ⟨g, rfl, rfl, fun x hx => ?_⟩⟩) ok
      rw [hpr x hx]
      exact (b7.2.2 x hx).1 (ok x hx)
  · obtain ⟨c, kn, pc, rn, sc, tk, sp, pa, du, lc, fo, sz, pr⟩ := u'
    exact br_t rfl (K0 _ hK ok)
/-- not running, or running with h left -/
theorem rs_XS_run {l : List Nat} {hh : Option rs_T} {s : Int32} {c kn pc rn sc : Int32} {tk sp pa du lc fo sz pr : Nat → Int32} (h : rs_XS l hh s (c, kn, pc, rn, sc, tk, sp, pa, du, lc, fo, sz, pr)) : (hh = none ∧ rn = 0) ∨ ∃ (g h : rs_T) (q : Nat) (d : Nat → rs_T), hh = some h ∧ rn = 1 ∧ rs_G g ∧ l = rs_sr 16 g ∧ kn = 1 ∧ pc = nI q ∧ rs_KN g q d pa du lc fo sz ∧ ∀ x, x < 4 → ∃ p, p < q ∧ pr x = nI p ∧ d p = rs_lr x h := by
  rcases h with ⟨h1, h⟩ | ⟨g, hg, e, h⟩
  · exact Or.inl ⟨h1, h.2.2.2.2.2⟩
  · obtain ⟨b1, b2, b3, b4, b5, q, d, b6, b7, b8⟩ := h
    rcases b8 with b8 | ⟨h, h1, h2, h3⟩
    · exact Or.inl b8
    · exact Or.inr ⟨g, h, q, d, h1, h2, hg, e, b5, b6, b7, h3⟩
theorem rs_Xruns {l : List Nat} {hh : Option rs_T} {s : Int32} {u : SX} {post : Int32 → Prop} (hX : rs_XS l hh s u) (h0 : hh = none → post 0) (h1 : ∀ g, hh = some g → post 1) : wpX_runs post u := by
  obtain ⟨c, kn, pc, rn, sc, tk, sp, pa, du, lc, fo, sz, pr⟩ := u
  rcases rs_XS_run hX with ⟨e, rfl⟩ | ⟨g, h, q, d, e, rfl, _⟩
  · exact And.intro narrow_b0 (h0 e)
  · exact And.intro narrow_b1 (h1 h e)
theorem rs_Xsent {l : List Nat} {hh : Option rs_T} {s : Int32} {u : SX} {post : Int32 → Prop} (hX : rs_XS l hh s u) (h0 : hh = none → post (-1)) (h1 : ∀ g, hh = some g → post s) : wpX_sent post u := by
  obtain ⟨c, kn, pc, rn, sc, tk, sp, pa, du, lc, fo, sz, pr⟩ := u
  have hb := rs_XS_b hX
  rcases rs_XS_run hX with ⟨e, rfl⟩ | ⟨g, h, q, d, e, rfl, _⟩
  · exact br_t rfl (h0 e)
  · refine br_f (by decide) ?_
    rw [hb.2.2.1]
    exact h1 h e
theorem rs_Xpos {l : List Nat} {hh : Option rs_T} {s : Int32} {u : SX} {post : Int32 → Prop} {x y z : Int32} (hA : rs_A l hh) (hX : rs_XS l hh s u) (h1 : rs_PS hh x y z → post 1) (h0 : ¬ rs_PS hh x y z → post 0) : wpX_possible post u x y z := by
  obtain ⟨c, kn, pc, rn, sc, tk, sp, pa, du, lc, fo, sz, pr⟩ := u
  rcases rs_XS_run hX with ⟨rfl, rfl⟩ | ⟨g, h, q, d, rfl, rfl, hg, rfl, rfl, rfl, hK, hpr⟩
  · exact br_t rfl (h0 (rs_PS_none _ _ _))
  · obtain ⟨a1, a2, a3⟩ := hA.2.2.2 h rfl
    have hq := hK.2.1
    refine br_f (by decide) ?_
    rcases rs_role x with ⟨R, hR, rfl⟩ | hx
    · refine rs_xrole1 hR (br_f (by decide) ?_)
      rcases rs_role y with ⟨S, hS, rfl⟩ | hy
      · refine rs_xrole1 hS (br_f (by decide) ?_)
        by_cases hz : z < 0
        · have hz' : ¬ (0 : Int32) ≤ z := Int32.not_le.mpr hz
          refine br_f hz' (h0 ?_)
          rintro ⟨_, _, _, L, _, _, _, _, hL, _, _, rfl, _⟩
          exact nI_pos (by omega) hz
        · obtain ⟨L, hL, rfl⟩ := nI_of hz
          obtain ⟨p1, l1, e1, f1⟩ := hpr R hR
          obtain ⟨p2, l2, e2, f2⟩ := hpr S hS
          have key : rs_mt R S L (d p1) (d p2) ↔ rs_PS (some h) (nI R) (nI S) (nI L) := by
            rw [rs_PS_iff hR hS hL]
            constructor
            · intro hm
              have hRS : R ≠ S := by
                rintro rfl
                have m1 := hm.1
                have m2 := hm.2.1
                rw [f1] at m1
                rw [f2] at m2
                omega
              have hl := rs_lb_in (rs_hd (d p1))
              have m3 := hm.2.2.1
              rw [f1, f2] at hm
              exact ⟨hRS, by omega, (rs_ps_iff L hRS hR hS h a1 (a3 R hR) (a3 S hS)).mpr hm⟩
            · rintro ⟨hRS, _, hp⟩
              rw [f1, f2]
              exact (rs_ps_iff L hRS hR hS h a1 (a3 R hR) (a3 S hS)).mp hp
          have g0 : ¬ rs_mt R S L (d p1) (d p2) → post 0 := fun hn => h0 (fun hp => hn (key.mpr hp))
          have g1 : rs_mt R S L (d p1) (d p2) → post 1 := fun hn => h1 (key.mp hn)
          have d1 := rs_lb_in (rs_hd (d p1))
          have d2 := rs_lb_in (rs_hd (d p2))
          refine br_t (nI_pos' hL) ⟨vp_in_nI hR (by decide), nm_r (e' := nI p1) (by rw [nI_clamp (by omega), e1]) ⟨vp_in_nI hS (by decide), nm_r (e' := nI p2) (by rw [nI_clamp (by omega), e2]) ?_⟩⟩
          rcases rs_PL_p hK.1 l1 with ⟨z1, w1⟩ | ⟨z1, w1, w2, w3, w4⟩
          · refine br_t (by rw [z1]; rfl) (br_t rfl (g0 ?_))
            intro hm
            have := hm.1
            rw [w1] at this
            have : (0 : Nat) = 1 + S := this
            omega
          · have du1 := rs_du_in w1 w2
            refine br_f (nI_ne0 z1 (by omega)) ⟨vp_in_nI (by omega) (by decide), ?_⟩
            refine pk_eq (rs_du (rs_hd (d p1))) (1 + S) (fun m1 => ?_) (fun m1 => br_t rfl (g0 (fun hm => m1 hm.1))) (by rw [nI_clamp (by omega), w3]) (nI_add 1 S) (by omega) (by omega)
            rcases rs_PL_p hK.1 l2 with ⟨z2, v1⟩ | ⟨z2, v1, v2, v3, v4⟩
            · refine br_t (by rw [z2]; rfl) (br_t rfl (g0 ?_))
              intro hm
              have := hm.2.1
              rw [v1] at this
              have : (0 : Nat) = 5 + R := this
              omega
            · have du2 := rs_du_in v1 v2
              refine br_f (nI_ne0 z2 (by omega)) ⟨vp_in_nI (by omega) (by decide), ?_⟩
              refine pk_eq (rs_du (rs_hd (d p2))) (5 + R) (fun m2 => ?_) (fun m2 => br_t rfl (g0 (fun hm => m2 hm.2.1))) (by rw [nI_clamp (by omega), v3]) (nI_add 5 R) (by omega) (by omega)
              refine br_f (by decide) ⟨vp_in_nI (by omega) (by decide), ?_⟩
              refine pk_le (rs_lb (rs_hd (d p1))) L (fun m3 => g0 (fun hm => ?_)) (fun m3 => ⟨vp_in_nI (by omega) (by decide), pk_le (rs_lb (rs_hd (d p2))) L (fun m4 => g0 (fun hm => ?_)) (fun m4 => g1 ⟨m1, m2, m3, m4⟩) (by rw [nI_clamp (by omega), v4]) rfl (by omega) hL⟩) (by rw [nI_clamp (by omega), w4]) rfl (by omega) hL
              · have := hm.2.2.1
                omega
              · have := hm.2.2.2
                omega
      · refine rs_xrole0 hy (br_t rfl (h0 ?_))
        rintro ⟨_, R', S', L, _, _, hS, _, _, _, e, _⟩
        exact hy S' hS e
    · refine rs_xrole0 hx (br_t rfl (h0 ?_))
      rintro ⟨_, R', S', L, _, hR, _, _, _, e, _⟩
      exact hx R' hR e
theorem rs_Xsend0 {l : List Nat} {hh : Option rs_T} {s : Int32} {u : SX} {post : Int32 → SX → Prop} {x y z : Int32} (hA : rs_A l hh) (h : rs_XS l hh s u) (hn : ¬ rs_PS hh x y z) (hp : post 0 u) : wpX_send post u x y z := by
  obtain ⟨c, kn, pc, rn, sc, tk, sp, pa, du, lc, fo, sz, pr⟩ := u
  unfold wpX_send
  exact rs_Xpos hA h (fun h => absurd h hn) (fun _ => br_t rfl hp)
theorem rs_Xsend1 {l : List Nat} {h : rs_T} {s : Int32} {u : SX} {post : Int32 → SX → Prop} {R S L : Nat} (hR : R < 4) (hS : S < 4) (hRS : R ≠ S) (hL : L < 2) (hps : rs_ps R S L h) (hA : rs_A l (some h)) (hX : rs_XS l (some h) s u) (K : ∀ u', rs_XS l (some (rs_sd R S L h)) (s + 1) u' → post 1 u') : wpX_send post u (nI R) (nI S) (nI L) := by
  obtain ⟨c, kn, pc, rn, sc, tk, sp, pa, du, lc, fo, sz, pr⟩ := u
  unfold wpX_send
  refine rs_Xpos hA hX (fun _ => ?_) (fun hn => absurd ((rs_PS_iff hR hS (by omega)).mpr ⟨hRS, hL, hps⟩) hn)
  obtain ⟨b1, b2, b3, b4⟩ := rs_XS_b hX
  rcases rs_XS_run hX with ⟨e, _⟩ | ⟨g, h', q, d, e, hrn, hg, hl, hkn, hpc, hK, hpr⟩
  · exact nomatch e
  · injection e with e
    subst e
    obtain ⟨a1, a2, a3⟩ := hA.2.2.2 h rfl
    have hq := hK.2.1
    obtain ⟨p1, l1, e1, f1⟩ := hpr R hR
    obtain ⟨p2, l2, e2, f2⟩ := hpr S hS
    have hm := (rs_ps_iff L hRS hR hS h a1 (a3 R hR) (a3 S hS)).mp hps
    have hd1 : 0 < rs_hd (d p1) := by
      rw [f1]
      have := hm.1
      rcases Nat.eq_zero_or_pos (rs_hd (rs_lr R h)) with z | z
      · rw [z] at this
        have : (0 : Nat) = 1 + S := this
        omega
      · exact z
    have hd2 : 0 < rs_hd (d p2) := by
      rw [f2]
      have := hm.2.1
      rcases Nat.eq_zero_or_pos (rs_hd (rs_lr S h)) with z | z
      · rw [z] at this
        have : (0 : Nat) = 5 + R := this
        omega
      · exact z
    obtain ⟨m1, n1, o1, q1⟩ := rs_PL_f hK.1 l1 hd1 hL
    obtain ⟨m2, n2, o2, q2⟩ := rs_PL_f hK.1 l2 hd2 hL
    have E1 : (2 : Int32) * pr (nI R).toNatClampNeg + nI L = nI (2 * p1 + L) := by
      rw [nI_clamp (by omega), e1, show (2 : Int32) = nI 2 from rfl, pk_mul, nI_add]
    have E2 : (2 : Int32) * upd pr R (nI m1) (nI S).toNatClampNeg + nI L = nI (2 * p2 + L) := by
      rw [nI_clamp (by omega), pk_un (fun h => hRS h.symm), e2, show (2 : Int32) = nI 2 from rfl, pk_mul, nI_add]
    have i0 : vp_in (nI R) 4 := vp_in_nI hR (by decide)
    have i1 : vp_in (nI S) 4 := vp_in_nI hS (by decide)
    refine br_f (by decide) ⟨i0, by rw [E1]; exact vp_in_nI (by omega) (by decide), i0, nm_r (e' := upd pr R (nI m1)) (by rw [E1, nI_clamp (by omega), nI_clamp (by omega), o1, rs_nb0 (by omega)]) ⟨i1, by rw [E2]; exact vp_in_nI (by omega) (by decide), i1, nm_r (e' := upd (upd pr R (nI m1)) S (nI m2)) (by rw [E2, nI_clamp (by omega), nI_clamp (by omega), o2, rs_nb0 (by omega)]) (nm_e ?_)⟩⟩
    refine K _ (Or.inr ⟨g, hg, hl, And.intro (by rw [b1, hl]) ⟨by rw [← hl]; exact b2, by rw [b3], b4, hkn, q, d, hpc, hK, Or.inr ⟨_, rfl, hrn, fun x hx => ?_⟩⟩⟩)
    have hlr := (rs_sd_lr x h a1 hps (a3 x hx)).2
    unfold rs_nx at hlr
    by_cases xS : x = S
    · refine ⟨m2, n2, ?_, ?_⟩
      · rw [xS, pk_us]
      · rw [q2, f2, hlr, if_pos (Or.inr xS), xS]
    · by_cases xR : x = R
      · refine ⟨m1, n1, ?_, ?_⟩
        · rw [pk_un xS, xR, pk_us]
        · rw [q1, f1, hlr, if_pos (Or.inl xR), xR]
      · obtain ⟨p, p1', p2', p3'⟩ := hpr x hx
        refine ⟨p, p1', ?_, ?_⟩
        · rw [pk_un xS, pk_un xR, p2']
        · rw [p3', hlr, if_neg (by omega)]
end
section
/-! X: duty, labels, rest, over, choices, write, rub -/
/-- the answers while running: of role x when it is one -/
def rs_an (hh : Option rs_T) (f : rs_T → Nat) (x : Int32) (y : Int32) : Prop := (∃ (h : rs_T) (r : Nat), hh = some h ∧ r < 4 ∧ x = nI r ∧ y = nI (f (rs_lr r h))) ∨ ((hh = none ∨ ∀ r, r < 4 → x ≠ nI r) ∧ y = -1)
theorem rs_Xduty {l : List Nat} {hh : Option rs_T} {s : Int32} {u : SX} {post : Int32 → Prop} {x : Int32} (hX : rs_XS l hh s u) (hp : ∀ y, rs_an hh (fun p => rs_du (rs_hd p)) x y → post y) : wpX_duty post u x := by
  obtain ⟨c, kn, pc, rn, sc, tk, sp, pa, du, lc, fo, sz, pr⟩ := u
  rcases rs_XS_run hX with ⟨rfl, rfl⟩ | ⟨g, h, q, d, rfl, rfl, hg, rfl, rfl, rfl, hK, hpr⟩
  · exact br_t rfl (hp _ (Or.inr ⟨Or.inl rfl, rfl⟩))
  · have hq := hK.2.1
    refine br_f (by decide) ?_
    rcases rs_role x with ⟨r, hr, rfl⟩ | hx
    · refine rs_xrole1 hr (br_f (by decide) ⟨vp_in_nI hr (by decide), ?_⟩)
      obtain ⟨p, l1, e1, f1⟩ := hpr r hr
      rw [nI_clamp (by omega), e1]
      rcases rs_PL_p hK.1 l1 with ⟨z1, w1⟩ | ⟨z1, w1, w2, w3, w4⟩
      · refine br_t (by rw [z1]; rfl) (hp _ (Or.inl ⟨h, r, rfl, hr, rfl, ?_⟩))
        show (0 : Int32) = nI (rs_du (rs_hd (rs_lr r h)))
        rw [← f1, w1]
        rfl
      · refine br_f (nI_ne0 z1 (by omega)) ⟨vp_in_nI hr (by decide), vp_in_nI (by omega) (by decide), hp _ (Or.inl ⟨h, r, rfl, hr, rfl, ?_⟩)⟩
        rw [nI_clamp (by omega), w3, f1]
    · exact rs_xrole0 hx (br_t rfl (hp _ (Or.inr ⟨Or.inr hx, rfl⟩)))
theorem rs_Xlabels {l : List Nat} {hh : Option rs_T} {s : Int32} {u : SX} {post : Int32 → Prop} {x : Int32} (hX : rs_XS l hh s u) (hp : ∀ y, rs_an hh (fun p => rs_lb (rs_hd p)) x y → post y) : wpX_labels post u x := by
  obtain ⟨c, kn, pc, rn, sc, tk, sp, pa, du, lc, fo, sz, pr⟩ := u
  rcases rs_XS_run hX with ⟨rfl, rfl⟩ | ⟨g, h, q, d, rfl, rfl, hg, rfl, rfl, rfl, hK, hpr⟩
  · exact br_t rfl (hp _ (Or.inr ⟨Or.inl rfl, rfl⟩))
  · have hq := hK.2.1
    refine br_f (by decide) ?_
    rcases rs_role x with ⟨r, hr, rfl⟩ | hx
    · refine rs_xrole1 hr (br_f (by decide) ⟨vp_in_nI hr (by decide), ?_⟩)
      obtain ⟨p, l1, e1, f1⟩ := hpr r hr
      rw [nI_clamp (by omega), e1]
      rcases rs_PL_p hK.1 l1 with ⟨z1, w1⟩ | ⟨z1, w1, w2, w3, w4⟩
      · refine br_t (by rw [z1]; rfl) (hp _ (Or.inl ⟨h, r, rfl, hr, rfl, ?_⟩))
        show (0 : Int32) = nI (rs_lb (rs_hd (rs_lr r h)))
        rw [← f1, w1]
        rfl
      · refine br_f (nI_ne0 z1 (by omega)) ⟨vp_in_nI hr (by decide), vp_in_nI (by omega) (by decide), hp _ (Or.inl ⟨h, r, rfl, hr, rfl, ?_⟩)⟩
        rw [nI_clamp (by omega), w4, f1]
    · exact rs_xrole0 hx (br_t rfl (hp _ (Or.inr ⟨Or.inr hx, rfl⟩)))
theorem rs_Xrest {l : List Nat} {hh : Option rs_T} {s : Int32} {u : SX} {post : Int32 → Prop} {x : Int32} (hX : rs_XS l hh s u) (hp : ∀ y, rs_an hh rs_sz x y → post y) : wpX_rest post u x := by
  obtain ⟨c, kn, pc, rn, sc, tk, sp, pa, du, lc, fo, sz, pr⟩ := u
  rcases rs_XS_run hX with ⟨rfl, rfl⟩ | ⟨g, h, q, d, rfl, rfl, hg, rfl, rfl, rfl, hK, hpr⟩
  · exact br_t rfl (hp _ (Or.inr ⟨Or.inl rfl, rfl⟩))
  · have hq := hK.2.1
    refine br_f (by decide) ?_
    rcases rs_role x with ⟨r, hr, rfl⟩ | hx
    · refine rs_xrole1 hr (br_f (by decide) ⟨vp_in_nI hr (by decide), ?_⟩)
      obtain ⟨p, l1, e1, f1⟩ := hpr r hr
      rw [nI_clamp (by omega), e1, nI_clamp (by omega), rs_PL_sz hK.1 l1, f1]
      exact ⟨vp_in_nI (by omega) (by decide), hp _ (Or.inl ⟨h, r, rfl, hr, rfl, rfl⟩)⟩
    · exact rs_xrole0 hx (br_t rfl (hp _ (Or.inr ⟨Or.inr hx, rfl⟩)))
/-- all roles are done -/
def rs_ov (h : rs_T) : Prop := ∀ x, x < 4 → rs_hd (rs_lr x h) = 0
section
variable {c kn pc rn sc : Int32} {tk sp pa du lc fo sz pr : Nat → Int32}
theorem rs_x11 {post : Int32 → Prop} {h : rs_T} {q : Nat} {d : Nat → rs_T} (hP : rs_PL q d du lc fo sz) (hq : q < 48) (hpr : ∀ x, x < 4 → ∃ p, p < q ∧ pr x = nI p ∧ d p = rs_lr x h) (h1 : rs_ov h → post 1) (h0 : ¬ rs_ov h → post 0) : ∀ m x : Nat, x + m = 4 → (∀ y, y < x → rs_hd (rs_lr y h) = 0) → wX_over_11 post c kn pc rn sc tk sp pa du lc fo sz pr (m + 1) (nI x) := by
  intro m
  induction m with
  | zero =>
    intro x hx hy
    have e : x = 4 := by omega
    subst e
    exact br_t (nI_le (Nat.le_refl 4) (by decide)) (h1 hy)
  | succ m ih =>
    intro x hx hy
    obtain ⟨p, l1, e1, f1⟩ := hpr x (by omega)
    refine br_f (nI_ge (b := 4) (by omega) (by decide)) ⟨vp_in_nI (by omega) (by decide), ?_⟩
    rw [nI_clamp (by omega), e1]
    rcases rs_PL_p hP l1 with ⟨z1, w1⟩ | ⟨z1, w1, w2, w3, w4⟩
    · refine br_t (by rw [z1]; rfl) (nm_r (nI_1 x) (ih (x + 1) (by omega) (fun y hy' => ?_)))
      by_cases e : y = x
      · rw [e, ← f1, w1]
      · exact hy y (by omega)
    · refine br_f (nI_ne0 z1 (by omega)) (h0 (fun ho => ?_))
      have := ho x (by omega)
      rw [← f1] at this
      omega
end
theorem rs_Xover {l : List Nat} {hh : Option rs_T} {s : Int32} {u : SX} {post : Int32 → Prop} (hX : rs_XS l hh s u) (hn : hh = none → post 0) (h1 : ∀ h, hh = some h → rs_ov h → post 1) (h0 : ∀ h, hh = some h → ¬ rs_ov h → post 0) : wpX_over post u := by
  obtain ⟨c, kn, pc, rn, sc, tk, sp, pa, du, lc, fo, sz, pr⟩ := u
  rcases rs_XS_run hX with ⟨rfl, rfl⟩ | ⟨g, h, q, d, rfl, rfl, hg, rfl, rfl, rfl, hK, hpr⟩
  · exact br_t rfl (hn rfl)
  · exact br_f (by decide) ⟨4 + 1, rs_x11 hK.1 hK.2.1 hpr (h1 h rfl) (h0 h rfl) 4 0 rfl (fun y hy => by omega)⟩
noncomputable def rs_b01 (P : Prop) : Nat := @ite Nat P (Classical.propDecidable P) 1 0
theorem rs_b1 {P : Prop} (h : P) : rs_b01 P = 1 := @if_pos P (Classical.propDecidable P) h Nat 1 0
theorem rs_b0 {P : Prop} (h : ¬ P) : rs_b01 P = 0 := @if_neg P (Classical.propDecidable P) h Nat 1 0
noncomputable def rs_cc (hh : Option rs_T) : Nat → Nat
  | 0 => 0
  | k + 1 => rs_cc hh k + rs_b01 (rs_PS hh (nI (k / 8)) (nI (k / 2 % 4)) (nI (k % 2)))
theorem rs_cc_0 (hh : Option rs_T) (r : Nat) {s : Nat} (hs : s < 4) : rs_cc hh (8 * r + 2 * s + 1) = rs_cc hh (8 * r + 2 * s) + rs_b01 (rs_PS hh (nI r) (nI s) 0) := by
  show rs_cc hh (8 * r + 2 * s) + rs_b01 (rs_PS hh (nI ((8 * r + 2 * s) / 8)) (nI ((8 * r + 2 * s) / 2 % 4)) (nI ((8 * r + 2 * s) % 2))) = _
  rw [show (8 * r + 2 * s) / 8 = r by omega, show (8 * r + 2 * s) / 2 % 4 = s by omega, show (8 * r + 2 * s) % 2 = 0 by omega]
  rfl
theorem rs_cc_1 (hh : Option rs_T) (r : Nat) {s : Nat} (hs : s < 4) : rs_cc hh (8 * r + 2 * (s + 1)) = rs_cc hh (8 * r + 2 * s + 1) + rs_b01 (rs_PS hh (nI r) (nI s) 1) := by
  show rs_cc hh (8 * r + 2 * s + 1) + rs_b01 (rs_PS hh (nI ((8 * r + 2 * s + 1) / 8)) (nI ((8 * r + 2 * s + 1) / 2 % 4)) (nI ((8 * r + 2 * s + 1) % 2))) = _
  rw [show (8 * r + 2 * s + 1) / 8 = r by omega, show (8 * r + 2 * s + 1) / 2 % 4 = s by omega, show (8 * r + 2 * s + 1) % 2 = 1 by omega]
  rfl
section
variable {c kn pc rn sc : Int32} {tk sp pa du lc fo sz pr : Nat → Int32}
theorem rs_xch32 {l : List Nat} {hh : Option rs_T} {s : Int32} {post : Int32 → Prop} {J4 J11 : Int32 → Int32 → Prop} {r x : Nat} (hx : x < 4) (hA : rs_A l hh) (h : rs_XS l hh s (c, kn, pc, rn, sc, tk, sp, pa, du, lc, fo, sz, pr)) {y z : Int32} (e : z + y = nI (rs_cc hh (8 * r + 2 * x + 1))) (K : J11 (nI (rs_cc hh (8 * r + 2 * (x + 1)))) (nI (x + 1))) : wX_choices_32 post J4 J11 (nI r) (nI x) y z c kn pc rn sc tk sp pa du lc fo sz pr := by
  refine nm_r e ?_
  refine rs_Xpos hA h (fun hp => ?_) (fun hp => ?_)
  · refine br_f (by decide) (nm_r (e' := nI (rs_cc hh (8 * r + 2 * (x + 1)))) ?_ (nm_r (nI_1 x) K))
    rw [rs_cc_1 hh r hx, rs_b1 hp, nI_1]
  · refine br_t rfl (nm_r (e' := nI (rs_cc hh (8 * r + 2 * (x + 1)))) ?_ (nm_r (nI_1 x) K))
    rw [rs_cc_1 hh r hx, rs_b0 hp, Int32.add_zero]
    rfl
theorem rs_xch11 {l : List Nat} {hh : Option rs_T} {s : Int32} {post : Int32 → Prop} {J4 : Int32 → Int32 → Prop} {r : Nat} (hA : rs_A l hh) (h : rs_XS l hh s (c, kn, pc, rn, sc, tk, sp, pa, du, lc, fo, sz, pr)) (K : J4 (nI (rs_cc hh (8 * (r + 1)))) (nI (r + 1))) : ∀ m x : Nat, x + m = 4 → wX_choices_11 post J4 (nI r) c kn pc rn sc tk sp pa du lc fo sz pr (m + 1) (nI (rs_cc hh (8 * r + 2 * x))) (nI x) := by
  intro m
  induction m with
  | zero =>
    intro x hx
    have e : x = 4 := by omega
    subst e
    exact br_t (nI_le (Nat.le_refl 4) (by decide)) (nm_r (nI_1 r) K)
  | succ m ih =>
    intro x hx
    refine br_f (nI_ge (b := 4) (by omega) (by decide)) ?_
    refine rs_Xpos hA h (fun hp => ?_) (fun hp => ?_)
    · refine br_f (by decide) (rs_xch32 (by omega) hA h ?_ (ih (x + 1) (by omega)))
      rw [rs_cc_0 hh r (by omega), rs_b1 hp, nI_1]
    · refine br_t rfl (rs_xch32 (by omega) hA h ?_ (ih (x + 1) (by omega)))
      rw [rs_cc_0 hh r (by omega), rs_b0 hp, Int32.add_zero, Nat.add_zero]
theorem rs_xch4 {l : List Nat} {hh : Option rs_T} {s : Int32} {post : Int32 → Prop} (hA : rs_A l hh) (h : rs_XS l hh s (c, kn, pc, rn, sc, tk, sp, pa, du, lc, fo, sz, pr)) (K : post (nI (rs_cc hh 32))) : ∀ m r : Nat, r + m = 4 → wX_choices_4 post c kn pc rn sc tk sp pa du lc fo sz pr (m + 1) (nI (rs_cc hh (8 * r))) (nI r) := by
  intro m
  induction m with
  | zero =>
    intro r hr
    have e : r = 4 := by omega
    subst e
    exact br_t (nI_le (Nat.le_refl 4) (by decide)) K
  | succ m ih =>
    intro r hr
    exact br_f (nI_ge (b := 4) (by omega) (by decide)) ⟨4 + 1, rs_xch11 hA h (ih (r + 1) (by omega)) 4 0 rfl⟩
end
theorem rs_Xchoices {l : List Nat} {hh : Option rs_T} {s : Int32} {u : SX} {post : Int32 → Prop} (hA : rs_A l hh) (h : rs_XS l hh s u) (K : post (nI (rs_cc hh 32))) : wpX_choices post u := by
  obtain ⟨c, kn, pc, rn, sc, tk, sp, pa, du, lc, fo, sz, pr⟩ := u
  exact Exists.intro (4 + 1) (rs_xch4 hA h K 4 0 rfl)
/-! write, rub -/
theorem rs_Xwr0 {x : Int32} {u : SX} {post : Int32 → SX → Prop} (hx : ∀ t, rs_tok t → x ≠ nI t) (hp : post (-1) u) : wpX_write post u x := by
  obtain ⟨c, kn, pc, rn, sc, tk, sp, pa, du, lc, fo, sz, pr⟩ := u
  unfold wpX_write
  rcases pk_ix x (n := 33) (by decide) with h1 | h1 | ⟨j, hj, e⟩
  · exact rs_xtokN h1 (br_t rfl hp)
  · obtain ⟨j, hj, hj2, rfl⟩ := rs_big (by decide) h1
    exact rs_xtokB hj hj2 (br_t rfl hp)
  · subst e
    have hn : ¬ rs_tok j := fun h => hx j h rfl
    have h0 : 0 < j ∧ rs_s j = rs_r j := by
      by_cases h0 : 0 < j
      · by_cases e : rs_s j = rs_r j
        · exact ⟨h0, e⟩
        · exact absurd ⟨by omega, fun _ => e⟩ hn
      · exact absurd ⟨by omega, fun h => absurd h h0⟩ hn
    exact rs_xtokE h0.1 (by omega) h0.2 (br_t rfl hp)
theorem rs_Xwr {l : List Nat} {hh : Option rs_T} {s : Int32} {u : SX} {post : Int32 → SX → Prop} {t : Nat} (ht : rs_tok t) (hA : rs_A l hh) (h : rs_XS l hh s u) (h2 : (rs_nd 1 l = 0 ∨ 21 ≤ l.length) → post (-2) u) (K : rs_nd 1 l ≠ 0 → l.length < 21 → ∀ u', rs_XS (l ++ [t]) none s u' → post (nI (l.length + 1)) u') : wpX_write post u (nI t) := by
  obtain ⟨c, kn, pc, rn, sc, tk, sp, pa, du, lc, fo, sz, pr⟩ := u
  obtain ⟨b1, b2, b3, b4⟩ := rs_XS_b h
  have hl := hA.2.2.1
  have t32 := ht.1
  unfold wpX_write
  refine rs_xtok1 ht (br_f (by decide) (rs_Xcomp hA h (fun hn => br_f (by decide) (h2 (Or.inl hn))) (fun hn => br_t rfl ?_)))
  refine pk_lt l.length 21 (fun h21 => ⟨?_, nm_r (e' := upd tk l.length (nI t)) ?_ (nm_r (e' := nI (l.length + 1)) ?_ ?_)⟩) (fun h21 => h2 (Or.inr h21)) b1
  · rw [b1]; exact vp_in_nI h21 (by decide)
  · rw [b1, nI_clamp (by omega), rs_nb (by omega)]
  · rw [b1, nI_1]
  · refine K hn h21 _ (Or.inl ⟨rfl, And.intro ?_ ⟨?_, b3, b4, rfl, rfl⟩⟩)
    · rw [List.length_append]; rfl
    · refine (rs_sg_app _ _ _ _).mpr ⟨rs_sg_cg l 0 (fun j _ hj => pk_un (by omega)) b2, And.intro ?_ trivial⟩
      rw [Nat.zero_add]
      exact pk_us
theorem rs_Xrub0 {hh : Option rs_T} {s : Int32} {u : SX} {post : Int32 → SX → Prop} (h : rs_XS [] hh s u) (hp : post (-1) u) : wpX_rub post u := by
  obtain ⟨c, kn, pc, rn, sc, tk, sp, pa, du, lc, fo, sz, pr⟩ := u
  obtain ⟨b1, b2, b3, b4⟩ := rs_XS_b h
  exact br_t b1 hp
theorem rs_Xrub {l : List Nat} {t : Nat} {hh : Option rs_T} {s : Int32} {u : SX} {post : Int32 → SX → Prop} (hA : rs_A (l ++ [t]) hh) (h : rs_XS (l ++ [t]) hh s u) (K : ∀ u', rs_XS l none s u' → post (nI t) u') : wpX_rub post u := by
  obtain ⟨c, kn, pc, rn, sc, tk, sp, pa, du, lc, fo, sz, pr⟩ := u
  obtain ⟨b1, b2, b3, b4⟩ := rs_XS_b h
  have hl := hA.2.2.1
  rw [List.length_append] at hl b1
  have hl' : l.length + 1 ≤ 21 := hl
  have b1' : c = nI (l.length + 1) := b1
  obtain ⟨s1, s2⟩ := (rs_sg_app tk l [t] 0).mp b2
  have s3 : tk (0 + l.length) = nI t := s2.1
  rw [Nat.zero_add] at s3
  refine br_f (by rw [b1']; exact nI_ne0 (by omega) (by omega)) (nm_r (e' := nI l.length) (by rw [b1', nI_pred]) ?_)
  show vp_in (nI l.length) 21 ∧ post (tk (nI l.length).toNatClampNeg) _
  rw [nI_clamp (by omega), s3]
  exact ⟨vp_in_nI (by omega) (by decide), K _ (Or.inl ⟨rfl, And.intro rfl ⟨s1, b3, b4, rfl, rfl⟩⟩)⟩
end
section
/-! Y: small methods -/
theorem rs_sg_at {a : Nat → Int32} {o p : Nat} {l : List Nat} (h : rs_sg a o l) (e : o = p) : rs_sg a p l := e ▸ h
theorem rs_yrole1 {post : Int32 → Prop} {r : Nat} (v : SY) (h : r < 4) (hp : post 1) : wpY_role post v (nI r) := by
  obtain ⟨yr, yc, yf, yp, yt, ys, yl, ye, yn⟩ := v
  exact br_f (nI_pos (by omega)) (br_f (nI_nlt (a := 3) (by omega) (by decide)) hp)
theorem rs_yrole0 {post : Int32 → Prop} {x : Int32} (v : SY) (h : ∀ r, r < 4 → x ≠ nI r) (hp : post 0) : wpY_role post v x := by
  obtain ⟨yr, yc, yf, yp, yt, ys, yl, ye, yn⟩ := v
  rcases pk_ix x (n := 4) (by decide) with h1 | h1 | ⟨j, hj, e⟩
  · exact br_t h1 hp
  · obtain ⟨j, hj, hj2, rfl⟩ := rs_big (by decide) h1
    exact br_f (nI_pos hj2) (br_t (nI_lt (a := 3) (by omega) hj2) hp)
  · exact absurd e (h j hj)
theorem rs_ysnd {post : Int32 → Prop} {t : Nat} (v : SY) (h0 : 0 < t) (h : t ≤ 32) (hp : post (nI (rs_s t))) : wpY_sender post v (nI t) := by
  obtain ⟨yr, yc, yf, yp, yt, ys, yl, ye, yn⟩ := v
  rw [← (rs_tabY t (by omega) h0).1] at hp
  exact hp
theorem rs_yrcv {post : Int32 → Prop} {t : Nat} (v : SY) (h0 : 0 < t) (h : t ≤ 32) (hp : post (nI (rs_r t))) : wpY_receiver post v (nI t) := by
  obtain ⟨yr, yc, yf, yp, yt, ys, yl, ye, yn⟩ := v
  rw [← (rs_tabY t (by omega) h0).2] at hp
  exact hp
theorem rs_ypl {post : Int32 → Prop} {t : Nat} (v : SY) (h : t ≤ 32) (hp : post (nI (rs_ar t))) : wpY_plans post v (nI t) := by
  obtain ⟨yr, yc, yf, yp, yt, ys, yl, ye, yn⟩ := v
  by_cases h0 : t = 0
  · subst h0
    exact br_t rfl hp
  · refine br_f (nI_ne0 (by omega) (by omega)) ?_
    by_cases h16 : t ≤ 16
    · rw [rs_ar1 (by omega) h16] at hp
      exact br_f (nI_nlt (a := 16) h16 (by decide)) hp
    · rw [rs_ar2 (by omega)] at hp
      exact br_t (nI_lt (a := 16) (by omega) (by omega)) hp
section
variable {yr yc yf yp : Int32} {yt ys yl ye yn : Nat → Int32}
theorem rs_ycomp4 {post : Int32 → Prop} (l : List Nat) : ∀ k o : Nat, k + 2 * l.length < 2 ^ 31 → rs_sg yt o l → (∀ t, t ∈ l → rs_tok t) → rs_vd k l → o + l.length ≤ 21 → ys 0 = nI (o + l.length) → (rs_nd k l = 0 → post 1) → (rs_nd k l ≠ 0 → post 0) → wY_complete_4 post yr yc yf yp yt ys yl ye yn (l.length + 1) (nI k) (nI o) := by
  induction l with
  | nil =>
    intro k o hb hs ht hv ho hc h1 h0
    refine br_t ?_ (pk_eq k 0 h1 h0)
    rw [hc]
    exact nI_le (Nat.le_refl _) (by omega)
  | cons t l ih =>
    intro k o hb hs ht hv ho hc h1 h0
    obtain ⟨s1, s2⟩ := hs
    obtain ⟨v1, v2⟩ := hv
    have ha := rs_ar_le t
    rw [List.length_cons] at ho hc hb
    have hk : ¬ ys 0 ≤ nI o := by
      rw [hc]
      exact nI_ge (by omega) (by omega)
    refine br_f hk ⟨vp_in_nI (by omega) (by decide), ?_⟩
    rw [nI_clamp (by omega), s1]
    refine rs_ypl _ (ht t List.mem_cons_self).1 ?_
    refine nm_r (rs_kl (rs_ar t) v1) (nm_r (nI_1 o) ?_)
    exact ih _ _ (by omega) s2 (fun e he => ht e (List.mem_cons_of_mem _ he)) v2 (by omega) (by rw [hc]; exact congrArg nI (by omega)) h1 h0
theorem rs_ycomp {post : Int32 → Prop} {l : List Nat} (hs : rs_sg yt 0 l) (ht : ∀ t, t ∈ l → rs_tok t) (hv : rs_vd 1 l) (hl : l.length ≤ 21) (hc : ys 0 = nI l.length) (h1 : rs_nd 1 l = 0 → post 1) (h0 : rs_nd 1 l ≠ 0 → post 0) : wpY_complete post (yr, yc, yf, yp, yt, ys, yl, ye, yn) := by
  show ∃ n4 : Nat, wY_complete_4 post yr yc yf yp yt ys yl ye yn n4 1 0
  exact ⟨l.length + 1, rs_ycomp4 l 1 0 (by omega) hs ht hv (by omega) (by rw [hc, Nat.zero_add]) h1 h0⟩
theorem rs_ybeh1 {post : Int32 → Prop} {o t k n : Nat} (h32 : t ≤ 32) (ht : yt (21 + o) = nI t) (ho : o < 21) (hk : k < 1000) (K : wY_behind_4 post yr yc yf yp yt ys yl ye yn n (nI (k + rs_ar t)) (nI (o + 1))) : wY_behind_4 post yr yc yf yp yt ys yl ye yn (n + 1) (nI (k + 1)) (nI o) := by
  have ha := rs_ar_le t
  have e : (21 : Int32) + nI o = nI (21 + o) := nI_add 21 o
  refine br_f (nI_nle (by omega) (by omega)) (br_f (nI_ge (b := 21) ho (by decide)) ?_)
  rw [e, nI_clamp (by omega), ht]
  refine ⟨vp_in_nI (by omega) (by decide), rs_ypl _ h32 (nm_r (rs_kl (rs_ar t) (by omega)) (nm_r (nI_1 o) ?_))⟩
  rw [Nat.add_sub_cancel]
  exact K
theorem rs_ybeh {post : Int32 → Prop} (g : rs_T) : rs_G g → ∀ k o n : Nat, k + (rs_sr 16 g).length < 1000 → rs_sg yt (21 + o) (rs_sr 16 g) → o + (rs_sr 16 g).length ≤ 21 → wY_behind_4 post yr yc yf yp yt ys yl ye yn n (nI k) (nI (o + (rs_sr 16 g).length)) → wY_behind_4 post yr yc yf yp yt ys yl ye yn (n + (rs_sr 16 g).length) (nI (k + 1)) (nI o) := by
  induction g with
  | leaf u =>
    intro hg k o n hk hs ho K
    have ho' : o + 1 ≤ 21 := ho
    exact rs_ybeh1 (t := 0) (by omega) (rs_sg_hd hs) (by omega) (by omega) K
  | branch t a b ia ib =>
    intro hg k o n hk hs ho K
    obtain ⟨g0, g1, g2, g3, g4, g5⟩ := hg
    have hd : yt (21 + o) = nI t := rs_sg_hd hs
    have la := rs_len1 16 a
    by_cases h16 : t ≤ 16
    · have hN := rs_lenN1 a b h16
      obtain ⟨_, hsa⟩ := rs_sg1 a b h16 hs
      rw [show rs_sr 16 (Lean.RArray.branch t a b) = rs_sr 16 (rs_N t a b) from rfl] at ho hk K ⊢
      have E1 : n + (rs_sr 16 (rs_N t a b)).length = n + (rs_sr 16 a).length + 1 := by omega
      have E2 : o + (rs_sr 16 (rs_N t a b)).length = (o + 1) + (rs_sr 16 a).length := by omega
      rw [E2] at K
      rw [E1]
      refine rs_ybeh1 g1 hd (by omega) (by omega) ?_
      rw [rs_ar1 g0 h16]
      exact ia g3 k (o + 1) n (by omega) hsa (by omega) K
    · have hN := rs_lenN2 a b (h := 16) (t := t) (by omega)
      obtain ⟨_, hsa, hsb⟩ := rs_sg2 a b (by omega) hs
      rw [show rs_sr 16 (Lean.RArray.branch t a b) = rs_sr 16 (rs_N t a b) from rfl] at ho hk K ⊢
      have E1 : n + (rs_sr 16 (rs_N t a b)).length = (n + (rs_sr 16 b).length) + (rs_sr 16 a).length + 1 := by omega
      have E2 : o + (rs_sr 16 (rs_N t a b)).length = (o + 1 + (rs_sr 16 a).length) + (rs_sr 16 b).length := by omega
      rw [E2] at K
      rw [E1]
      refine rs_ybeh1 g1 hd (by omega) (by omega) ?_
      rw [rs_ar2 (by omega)]
      refine ia g3 (k + 1) (o + 1) _ (by omega) hsa (by omega) ?_
      exact ib g4 k (o + 1 + (rs_sr 16 a).length) n (by omega) (rs_sg_at hsb (by omega)) (by omega) K
theorem rs_Ybeh {post : Int32 → Prop} {g : rs_T} {o : Nat} (hg : rs_G g) (hs : rs_sg yt (21 + o) (rs_sr 16 g)) (ho : o + (rs_sr 16 g).length ≤ 21) (hp : post (nI (o + (rs_sr 16 g).length))) : wpY_behind post (yr, yc, yf, yp, yt, ys, yl, ye, yn) (nI o) := by
  show ∃ n4 : Nat, wY_behind_4 post yr yc yf yp yt ys yl ye yn n4 1 (nI o)
  exact ⟨1 + (rs_sr 16 g).length, rs_ybeh g hg 0 o 1 (by omega) hs ho (br_t (by decide) hp)⟩
theorem rs_ymea7 {post : Int32 → Prop} (l : List Nat) : ∀ k o : Nat, rs_sg yl o l → o + l.length = 21 → (∀ e, e ∈ l → e ≤ 16) → post (nI (k + rs_cp l)) → wY_measure_7 post yr yc yf yp yt ys yl ye yn (l.length + 1) (nI k) (nI o) := by
  induction l with
  | nil =>
    intro k o hs ho he hp
    have e : o = 21 := ho
    subst e
    exact br_t (nI_le (Nat.le_refl 21) (by decide)) hp
  | cons t l ih =>
    intro k o hs ho he hp
    obtain ⟨s1, s2⟩ := hs
    rw [List.length_cons] at ho
    have t16 := he t List.mem_cons_self
    refine br_f (nI_ge (b := 21) (by omega) (by decide)) ⟨vp_in_nI (by omega) (by decide), ?_⟩
    rw [nI_clamp (by omega), s1]
    have hp' : post (nI (k + ((if t = 0 then 0 else 1) + rs_cp l))) := hp
    by_cases z : t = 0
    · subst z
      rw [if_pos rfl, Nat.zero_add] at hp'
      exact br_t (by decide) (nm_r (nI_1 o) (ih k (o + 1) s2 (by omega) (fun e h => he e (List.mem_cons_of_mem _ h)) hp'))
    · rw [if_neg z, ← Nat.add_assoc] at hp'
      exact br_f (nI_nle (by omega) (by omega)) (nm_r (nI_1 k) (nm_r (nI_1 o) (ih (k + 1) (o + 1) s2 (by omega) (fun e h => he e (List.mem_cons_of_mem _ h)) hp')))
theorem rs_Ymea {post : Int32 → Prop} {p : rs_T} {f : Nat} (hp : rs_W 8 p) (hs : rs_sg yl f (rs_sr 8 p)) (hf : f + (rs_sr 8 p).length = 21) (K : post (nI (rs_sz p))) : wpY_measure post (yr, yc, nI f, yp, yt, ys, yl, ye, yn) := by
  show ∃ n7 : Nat, wY_measure_7 post yr yc (nI f) yp yt ys yl ye yn n7 0 (nI f)
  refine ⟨_, rs_ymea7 (rs_sr 8 p) 0 f hs hf (fun e he => rs_mem 8 p hp e he) ?_⟩
  rw [rs_cp_sr 8 p hp, Nat.zero_add]
  exact K
/-! front -/
theorem rs_yfr0 {post : SY → Prop} {f p : Nat} {w : Int32} (hf : f < 21) (hp : p < 21) (K : post (yr, yc, nI f, nI (p + 1), yt, ys, upd yl f w, upd ye p (nI 1), yn)) : wpY_front post (yr, yc, nI (f + 1), nI p, yt, ys, yl, ye, yn) w (nI 0) := by
  refine nm_r (nI_pred f) ⟨vp_in_nI hf (by decide), nm_r (e' := upd yl f w) (by rw [nI_clamp (by omega)]) ⟨1, ?_⟩⟩
  exact br_t (by decide) ⟨vp_in_nI hp (by decide), nm_r (e' := upd ye p (nI 1)) (by rw [nI_clamp (by omega)]; rfl) (nm_r (nI_1 p) K)⟩
theorem rs_yfr1 {post : SY → Prop} {f p m : Nat} {w : Int32} (hf : f < 21) (hp : p < 21) (hm : ye p = nI m) (K : post (yr, yc, nI f, nI (p + 1), yt, ys, upd yl f w, upd ye p (nI (m + 1)), yn)) : wpY_front post (yr, yc, nI (f + 1), nI (p + 1), yt, ys, yl, ye, yn) w (nI 1) := by
  refine nm_r (nI_pred f) ⟨vp_in_nI hf (by decide), nm_r (e' := upd yl f w) (by rw [nI_clamp (by omega)]) ⟨2, ?_⟩⟩
  refine br_f (by decide) (nm_r (nI_pred p) ⟨vp_in_nI hp (by decide), nm_r (e' := nI (m + 1)) ?_ (nm_r (nI_1 0) ?_)⟩)
  · rw [nI_clamp (by omega), hm, show (1 : Int32) = nI 1 from rfl, nI_add]
    exact congrArg nI (by omega)
  · exact br_t (by decide) ⟨vp_in_nI hp (by decide), nm_r (e' := upd ye p (nI (m + 1))) (by rw [nI_clamp (by omega)]) (nm_r (nI_1 p) K)⟩
theorem rs_yfr2 {post : SY → Prop} {f p m k : Nat} {w : Int32} (hf : f < 21) (hp : p + 1 < 21) (hm : ye (p + 1) = nI m) (hk : ye p = nI k) (K : post (yr, yc, nI f, nI (p + 1), yt, ys, upd yl f w, upd ye p (nI (m + k + 1)), yn)) : wpY_front post (yr, yc, nI (f + 1), nI (p + 2), yt, ys, yl, ye, yn) w (nI 2) := by
  refine nm_r (nI_pred f) ⟨vp_in_nI hf (by decide), nm_r (e' := upd yl f w) (by rw [nI_clamp (by omega)]) ⟨3, ?_⟩⟩
  refine br_f (by decide) (nm_r (nI_pred (p + 1)) ⟨vp_in_nI hp (by decide), nm_r (e' := nI (m + 1)) ?_ (nm_r (nI_1 0) ?_)⟩)
  · rw [nI_clamp (by omega), hm, show (1 : Int32) = nI 1 from rfl, nI_add]
    exact congrArg nI (by omega)
  · refine br_f (by decide) (nm_r (nI_pred p) ⟨vp_in_nI (by omega) (by decide), nm_r (e' := nI (m + k + 1)) ?_ (nm_r (nI_1 1) ?_)⟩)
    · rw [nI_clamp (by omega), hk, nI_add]
      exact congrArg nI (by omega)
    · exact br_t (by decide) ⟨vp_in_nI (by omega) (by decide), nm_r (e' := upd ye p (nI (m + k + 1))) (by rw [nI_clamp (by omega)]) (nm_r (nI_1 p) K)⟩
/-! join -/
theorem rs_yj83 {post : Int32 → SY → Prop} {f m p : Nat} {x : Int32} (hx : x = 0 ∨ x = 1) (K : post x (yr, yc, nI (f + m), nI p, yt, ys, yl, ye, yn)) : wY_join_83 post (nI m) x yr yc (nI f) (nI (p + 1)) yt ys yl ye yn := by
  refine nm_r (nI_add f m) (nm_r (nI_pred p) ⟨?_, K⟩)
  rcases hx with rfl | rfl
  · exact narrow_b0
  · exact narrow_b1
theorem rs_yj35 {post : Int32 → SY → Prop} {f m p : Nat} (A : List Nat) : ∀ (B : List Nat) (k : Nat), A.length = B.length → k + A.length = m → f + m + m ≤ 21 → rs_sg yl (f + k) A → rs_sg yl (f + m + k) B → (∀ e, e ∈ A → e ≤ 16) → (∀ e, e ∈ B → e ≤ 16) → (A = B → post 1 (yr, yc, nI (f + m), nI p, yt, ys, yl, ye, yn)) → (A ≠ B → post 0 (yr, yc, nI (f + m), nI p, yt, ys, yl, ye, yn)) → wY_join_35 post (nI m) yr yc (nI f) (nI (p + 1)) yt ys yl ye yn (A.length + 1) 1 (nI k) := by
  induction A with
  | nil =>
    intro B k h1 h2 h3 h4 h5 h6 h7 h8 h9
    have e : B = [] := List.length_eq_zero_iff.mp h1.symm
    have e2 : k = m := h2
    rw [e2]
    exact br_t (nI_le (Nat.le_refl m) (by omega)) (rs_yj83 (Or.inr rfl) (h8 e.symm))
  | cons a A ih =>
    intro B k h1 h2 h3 h4 h5 h6 h7 h8 h9
    cases B with
    | nil => exact nomatch h1
    | cons b B =>
      rw [List.length_cons] at h2
      obtain ⟨s1, s2⟩ := h4
      obtain ⟨r1, r2⟩ := h5
      have a16 := h6 a List.mem_cons_self
      have b16 := h7 b List.mem_cons_self
      have E1 : nI f + nI k = nI (f + k) := nI_add f k
      have E2 : nI f + nI m + nI k = nI (f + m + k) := by rw [nI_add, nI_add]
      refine br_f (nI_ge (by omega) (by omega)) (br_f (by decide) ?_)
      rw [E1, E2, nI_clamp (by omega), nI_clamp (by omega)]
      refine ⟨vp_in_nI (by omega) (by decide), vp_in_nI (by omega) (by decide), ?_⟩
      refine pk_eq a b (fun e => nm_r (nI_1 k) ?_) (fun e => nm_r (nI_1 k) ?_) s1 r1
      · refine ih B (k + 1) (Nat.succ.inj h1) (by omega) h3 s2 r2 (fun e h => h6 e (List.mem_cons_of_mem _ h)) (fun e h => h7 e (List.mem_cons_of_mem _ h)) (fun e' => h8 (by rw [e, e'])) (fun e' => h9 (fun h => e' (List.cons.inj h).2))
      · refine br_c (fun _ => ?_) (fun _ => br_t rfl ?_)
        · exact rs_yj83 (Or.inl rfl) (h9 (fun h => e (List.cons.inj h).1))
        · exact rs_yj83 (Or.inl rfl) (h9 (fun h => e (List.cons.inj h).1))
theorem rs_yjoin {post : Int32 → SY → Prop} {f p : Nat} (A B : List Nat) (hf : f + A.length + B.length ≤ 21) (hp : p + 2 ≤ 21) (sA : rs_sg yl f A) (sB : rs_sg yl (f + A.length) B) (eA : ye (p + 1) = nI A.length) (eB : ye p = nI B.length) (hA : ∀ e, e ∈ A → e ≤ 16) (hB : ∀ e, e ∈ B → e ≤ 16) (K1 : A = B → post 1 (yr, yc, nI (f + A.length), nI (p + 1), yt, ys, yl, ye, yn)) (K0 : A ≠ B → post 0 (yr, yc, nI (f + A.length), nI (p + 1), yt, ys, yl, ye, yn)) : wpY_join post (yr, yc, nI f, nI (p + 2), yt, ys, yl, ye, yn) := by
  have E1 : nI (p + 2) - 1 = nI (p + 1) := nI_pred (p + 1)
  have E2 : nI (p + 2) - 2 = nI p := by
    rw [show (2 : Int32) = nI 2 from rfl, pk_sub (by omega)]
    exact congrArg nI (by omega)
  refine And.intro (by rw [E1]; exact vp_in_nI (by omega) (by decide)) (nm_r (e' := nI A.length) (by rw [E1, nI_clamp (by omega), eA]) ⟨by rw [E2]; exact vp_in_nI (by omega) (by decide), ?_⟩)
  refine pk_eq A.length B.length (fun e => ⟨A.length + 1, ?_⟩) (fun e => ⟨1, ?_⟩) rfl (by rw [E2, nI_clamp (by omega), eB]) (by omega) (by omega)
  · exact rs_yj35 A B 0 e (by omega) (by omega) sA sB hA hB K1 K0
  · refine br_c (fun _ => ?_) (fun _ => br_t rfl ?_)
    · exact rs_yj83 (Or.inl rfl) (K0 (fun h => e (by rw [h])))
    · exact rs_yj83 (Or.inl rfl) (K0 (fun h => e (by rw [h])))
end
end
section
/-! read: one token, a tree -/
section
variable {yr yc yf yp : Int32} {yt ys yl ye yn : Nat → Int32} {yf' yp' : Int32} {yl' ye' : Nat → Int32}
theorem rs_yix {ls o : Nat} (hl : ls < 2) (ho : o < 21) : (21 : Int32) * nI ls + nI o = nI (21 * ls + o) := by
  rw [show (21 : Int32) = nI 21 from rfl, pk_mul, nI_add]
theorem rs_yst0 {post : Int32 → SY → Prop} {ls x o n : Nat} {x3 : Int32} (hl : ls < 2) (ho : o < 21) (ht : yt (21 * ls + o) = nI 0) (F : ∀ post' : SY → Prop, post' (yr, yc, yf', yp', yt, ys, yl', ye', yn) → wpY_front post' (yr, yc, yf, yp, yt, ys, yl, ye, yn) (nI 0) (nI 0)) (K : wY_read_23 post (nI ls) (nI x) n x3 (nI o + (-1)) yr yc yf' yp' yt ys yl' ye' yn) : wY_read_23 post (nI ls) (nI x) (n + 1) x3 (nI o) yr yc yf yp yt ys yl ye yn := by
  refine br_f (nI_pos (by omega)) ?_
  rw [rs_yix hl ho, nI_clamp (by omega)]
  refine ⟨vp_in_nI (by omega) (by decide), nm_r ht ?_⟩
  refine rs_ypl _ (by omega) (br_t (by decide) ?_)
  refine br_t rfl (br_t rfl (br_t rfl ?_))
  exact F _ (nm_e K)
theorem rs_yst1 {post : Int32 → SY → Prop} {ls x o n t : Nat} {x3 : Int32} (hl : ls < 2) (ho : o < 21) (hx : x < 4) (h0 : 0 < t) (h32 : t ≤ 32) (ht : yt (21 * ls + o) = nI t) (hm : rs_s t = x ∨ rs_r t = x) (F : ∀ post' : SY → Prop, post' (yr, yc, yf', yp', yt, ys, yl', ye', yn) → wpY_front post' (yr, yc, yf, yp, yt, ys, yl, ye, yn) (nI (rs_v x t)) (nI (rs_ar t))) (K : wY_read_23 post (nI ls) (nI x) n x3 (nI o + (-1)) yr yc yf' yp' yt ys yl' ye' yn) : wY_read_23 post (nI ls) (nI x) (n + 1) x3 (nI o) yr yc yf yp yt ys yl ye yn := by
  have hs4 := rs_s4 t
  have hr4 := rs_r4 t
  have ne : ¬ nI t = 0 := nI_ne0 h0 (by omega)
  have L : ∀ w : Nat, w = (if rs_s t = x then 1 + rs_r t else 5 + rs_s t) → wY_read_130 post (wY_read_23 post (nI ls) (nI x) n) (nI ls) (nI x) x3 (nI o) (nI (rs_ar t)) (nI w) yr yc yf yp yt ys yl ye yn := by
    intro w hw
    have ew : rs_v x t = w + (if t ≤ 16 then 0 else 8) := by rw [hw]; rfl
    by_cases h16 : t ≤ 16
    · rw [if_pos h16] at ew
      rw [ew, rs_ar1 h0 h16] at F
      rw [rs_ar1 h0 h16]
      refine br_f (by decide) ?_
      have e2 : nI w + 0 = nI (w + 0) := by rw [Int32.add_zero]; rfl
      unfold wY_read_142 wY_read_143
      rw [e2]
      exact F _ (nm_e K)
    · rw [if_neg h16] at ew
      rw [ew, rs_ar2 (by omega)] at F
      rw [rs_ar2 (by omega)]
      refine br_t rfl ?_
      have e2 : nI w + 8 = nI (w + 8) := nI_add w 8
      unfold wY_read_142 wY_read_143
      rw [e2]
      exact F _ (nm_e K)
  have M : wY_read_75 post (wY_read_23 post (nI ls) (nI x) n) (nI ls) (nI x) x3 (nI o) (nI t) (nI (rs_ar t)) yr yc yf yp yt ys yl ye yn := by
    refine br_f (by decide) (br_f ne ?_)
    refine rs_ysnd _ h0 h32 (pk_eq (rs_s t) x (fun e => ?_) (fun e => ?_))
    · refine rs_yrcv _ h0 h32 ?_
      rw [show (1 : Int32) + nI (rs_r t) = nI (1 + rs_r t) from nI_add 1 _]
      exact L _ (by rw [if_pos e])
    · refine rs_ysnd _ h0 h32 ?_
      rw [show (5 : Int32) + nI (rs_s t) = nI (5 + rs_s t) from nI_add 5 _]
      exact L _ (by rw [if_neg e])
  refine br_f (nI_pos (by omega)) ?_
  rw [rs_yix hl ho, nI_clamp (by omega)]
  refine ⟨vp_in_nI (by omega) (by decide), nm_r ht ?_⟩
  refine rs_ypl _ h32 (br_f (nI_nle h0 (by omega)) ?_)
  refine rs_ysnd _ h0 h32 (pk_eq (rs_s t) x (fun _ => M) (fun e1 => rs_yrcv _ h0 h32 (pk_eq (rs_r t) x (fun _ => M) (fun e2 => ?_))))
  exact absurd hm (by omega)
theorem rs_yst79 {post : Int32 → SY → Prop} {ls x o n t : Nat} {x3 : Int32} (hl : ls < 2) (ho : o < 21) (hx : x < 4) (h0 : 0 < t) (h32 : t ≤ 32) (ht : yt (21 * ls + o) = nI t) (hm : ¬ (rs_s t = x ∨ rs_r t = x)) (K : wY_read_79 post (wY_read_23 post (nI ls) (nI x) n) (nI ls) (nI x) x3 (nI o) (nI t) (nI (rs_ar t)) yr yc yf yp yt ys yl ye yn) : wY_read_23 post (nI ls) (nI x) (n + 1) x3 (nI o) yr yc yf yp yt ys yl ye yn := by
  have hs4 := rs_s4 t
  have hr4 := rs_r4 t
  refine br_f (nI_pos (by omega)) ?_
  rw [rs_yix hl ho, nI_clamp (by omega)]
  refine ⟨vp_in_nI (by omega) (by decide), nm_r ht ?_⟩
  refine rs_ypl _ h32 (br_f (nI_nle h0 (by omega)) ?_)
  exact rs_ysnd _ h0 h32 (pk_eq (rs_s t) x (fun e => absurd (Or.inl e) hm) (fun e1 => rs_yrcv _ h0 h32 (pk_eq (rs_r t) x (fun e => absurd (Or.inr e) hm) (fun e2 => K))))
theorem rs_yst2 {post : Int32 → SY → Prop} {ls x o n t : Nat} {x3 : Int32} (hl : ls < 2) (ho : o < 21) (hx : x < 4) (h0 : 0 < t) (h16 : t ≤ 16) (ht : yt (21 * ls + o) = nI t) (hm : ¬ (rs_s t = x ∨ rs_r t = x)) (K : wY_read_23 post (nI ls) (nI x) n x3 (nI o + (-1)) yr yc yf yp yt ys yl ye yn) : wY_read_23 post (nI ls) (nI x) (n + 1) x3 (nI o) yr yc yf yp yt ys yl ye yn := by
  refine rs_yst79 hl ho hx h0 (by omega) ht hm ?_
  rw [rs_ar1 h0 h16]
  exact br_t rfl (br_f (nI_ne0 h0 (by omega)) (br_f (by decide) (nm_e K)))
theorem rs_yst3 {post : Int32 → SY → Prop} {ls x o n t : Nat} {x3 : Int32} {E : Prop} (hl : ls < 2) (ho : o < 21) (hx : x < 4) (h16 : 16 < t) (h32 : t ≤ 32) (ht : yt (21 * ls + o) = nI t) (hm : ¬ (rs_s t = x ∨ rs_r t = x)) (h3 : x3 = 0 ∨ x3 = 1) (F : ∀ post' : Int32 → SY → Prop, (E → post' 1 (yr, yc, yf', yp', yt, ys, yl', ye', yn)) → (¬ E → post' 0 (yr, yc, yf', yp', yt, ys, yl', ye', yn)) → wpY_join post' (yr, yc, yf, yp, yt, ys, yl, ye, yn)) (K1 : E → wY_read_23 post (nI ls) (nI x) n x3 (nI o + (-1)) yr yc yf' yp' yt ys yl' ye' yn) (K0 : ¬ E → wY_read_23 post (nI ls) (nI x) n 0 (nI o + (-1)) yr yc yf' yp' yt ys yl' ye' yn) : wY_read_23 post (nI ls) (nI x) (n + 1) x3 (nI o) yr yc yf yp yt ys yl ye yn := by
  refine rs_yst79 hl ho hx (by omega) h32 ht hm ?_
  rw [rs_ar2 h16]
  refine br_t rfl (br_f (nI_ne0 (by omega) (by omega)) (br_t rfl (F _ (fun e => ?_) (fun e => ?_))))
  · refine br_f (by decide) ?_
    rcases h3 with rfl | rfl
    · exact br_t rfl (nm_e (K1 e))
    · exact br_f (by decide) (nm_e (K1 e))
  · exact br_t rfl (nm_e (K0 e))
end
section
variable {yr yc yf yp : Int32} {yt ys yl ye yn : Nat → Int32}
theorem rs_ytree {post : Int32 → SY → Prop} {ls x : Nat} (hl : ls < 2) (hx : x < 4) (g : rs_T) : rs_G g → ∀ (o n f p : Nat) (x3 : Int32) (yl ye : Nat → Int32), rs_sg yt (21 * ls + o) (rs_sr 16 g) → o + (rs_sr 16 g).length ≤ 21 → (rs_sr 16 g).length ≤ f → f ≤ 21 → p + (rs_sr 16 g).length ≤ 21 → (x3 = 0 ∨ x3 = 1) → (∀ (y3 : Int32) (f' : Nat) (yl' ye' : Nat → Int32), f' + (rs_sr 8 (rs_lr x g)).length = f → (rs_ok x g → y3 = x3) → (¬ rs_ok x g → y3 = 0) → rs_sg yl' f' (rs_sr 8 (rs_lr x g)) → (∀ j, f ≤ j → yl' j = yl j) → ye' p = nI (rs_sr 8 (rs_lr x g)).length → (∀ j, j < p → ye' j = ye j) → wY_read_23 post (nI ls) (nI x) n y3 (nI o + (-1)) yr yc (nI f') (nI (p + 1)) yt ys yl' ye' yn) → wY_read_23 post (nI ls) (nI x) (n + (rs_sr 16 g).length) x3 (nI (o + (rs_sr 16 g).length) + (-1)) yr yc (nI f) (nI p) yt ys yl ye yn := by
  induction g with
  | leaf u =>
    intro hg o n f p x3 yl ye hs ho hf hf2 hp h3 K
    have ho' : o + 1 ≤ 21 := ho
    have hf' : 1 ≤ f := hf
    have hp' : p + 1 ≤ 21 := hp
    obtain ⟨f1, rfl⟩ : ∃ f1, f = f1 + 1 := ⟨f - 1, by omega⟩
    show wY_read_23 post (nI ls) (nI x) (n + 1) x3 (nI (o + 1) + (-1)) _ _ _ _ _ _ _ _ _
    rw [pk_m1]
    refine rs_yst0 hl (by omega) (rs_sg_hd hs) (fun post' hp => rs_yfr0 (by omega) (by omega) hp) ?_
    exact K x3 f1 (upd yl f1 (nI 0)) (upd ye p (nI 1)) rfl (fun _ => rfl) (fun h => absurd trivial h) (And.intro pk_us trivial) (fun j hj => pk_un (by omega)) pk_us (fun j hj => pk_un (by omega))
  | branch t a b ia ib =>
    intro hg o n f p x3 yl ye hs ho hf hf2 hp h3 K
    obtain ⟨g0, g1, g2, g3, g4, g5⟩ := hg
    have hd : yt (21 * ls + o) = nI t := rs_sg_hd hs
    have la := rs_len1 16 a
    have lb := rs_len1 16 b
    have ra := rs_lr_len x a g3
    have rb := rs_lr_len x b g4
    have ra1 := rs_len1 8 (rs_lr x a)
    have v8 := rs_v_8 x t
    rw [show rs_sr 16 (Lean.RArray.branch t a b) = rs_sr 16 (rs_N t a b) from rfl] at ho hf hp ⊢
    rw [show rs_lr x (Lean.RArray.branch t a b) = rs_lr x (rs_N t a b) from rfl] at K
    by_cases h16 : t ≤ 16
    · have hN := rs_lenN1 a b h16
      obtain ⟨_, hsa⟩ := rs_sg1 a b h16 hs
      have E1 : n + (rs_sr 16 (rs_N t a b)).length = (n + 1) + (rs_sr 16 a).length := by omega
      have E2 : o + (rs_sr 16 (rs_N t a b)).length = (o + 1) + (rs_sr 16 a).length := by omega
      have hb : rs_ok x b := by rw [g5 h16]; exact trivial
      rw [E1, E2]
      refine ia g3 (o + 1) (n + 1) f p x3 yl ye (rs_sg_at hsa (by omega)) (by omega) (by omega) hf2 (by omega) h3 ?_
      intro y3 f1 yl1 ye1 k1 k2 k3 k4 k5 k6 k7
      rw [pk_m1]
      by_cases hm : rs_s t = x ∨ rs_r t = x
      · obtain ⟨f2, rfl⟩ : ∃ f2, f1 = f2 + 1 := ⟨f1 - 1, by omega⟩
        have hL := rs_lenN1 (rs_lr x a) (rs_lr x b) (v8.mpr h16)
        rw [rs_lr_m a b hm] at K
        refine rs_yst1 hl (by omega) hx g0 g1 hd hm (fun post' hp => ?_) (K y3 f2 (upd yl1 f2 (nI (rs_v x t))) (upd ye1 p (nI ((rs_sr 8 (rs_lr x a)).length + 1))) (by omega) (fun h => k2 h.1) (fun h => k3 (fun h' => h (And.intro h' ⟨hb, ?_⟩))) ?_ (fun j hj => (pk_un (by omega)).trans (k5 j hj)) ?_ (fun j hj => (pk_un (by omega)).trans (k7 j hj)))
        · rw [rs_ar1 g0 h16]
          exact rs_yfr1 (by omega) (by omega) k6 hp
        · omega
        · rw [rs_sr1 _ _ (v8.mpr h16)]
          exact And.intro pk_us (rs_sg_cg _ _ (fun j hj _ => pk_un (by omega)) k4)
        · rw [pk_us, hL]
      · refine rs_yst2 hl (by omega) hx g0 h16 hd hm ?_
        rw [rs_lr_1 a b hm h16] at K
        exact K y3 f1 yl1 ye1 k1 (fun h => k2 h.1) (fun h => k3 (fun h' => h (And.intro h' ⟨hb, Or.inr (Or.inr (Or.inl h16))⟩))) k4 k5 k6 k7
    · have hN := rs_lenN2 a b (h := 16) (t := t) (by omega)
      obtain ⟨_, hsa, hsb⟩ := rs_sg2 a b (by omega) hs
      have E1 : n + (rs_sr 16 (rs_N t a b)).length = (n + 1 + (rs_sr 16 a).length) + (rs_sr 16 b).length := by omega
      have E2 : o + (rs_sr 16 (rs_N t a b)).length = (o + 1 + (rs_sr 16 a).length) + (rs_sr 16 b).length := by omega
      rw [E1, E2]
      refine ib g4 (o + 1 + (rs_sr 16 a).length) (n + 1 + (rs_sr 16 a).length) f p x3 yl ye (rs_sg_at hsb (by omega)) (by omega) (by omega) hf2 (by omega) h3 ?_
      intro y2 f0 yl0 ye0 i1 i2 i3 i4 i5 i6 i7
      have h2 : y2 = 0 ∨ y2 = 1 := by
        by_cases ob : rs_ok x b
        · rw [i2 ob]; exact h3
        · exact Or.inl (i3 ob)
      refine ia g3 (o + 1) (n + 1) f0 (p + 1) y2 yl0 ye0 (rs_sg_at hsa (by omega)) (by omega) (by omega) (by omega) (by omega) h2 ?_
      intro y3 f1 yl1 ye1 k1 k2 k3 k4 k5 k6 k7
      have h3' : y3 = 0 ∨ y3 = 1 := by
        by_cases oa : rs_ok x a
        · rw [k2 oa]; exact h2
        · exact Or.inl (k3 oa)
      have sB : rs_sg yl1 (f1 + (rs_sr 8 (rs_lr x a)).length) (rs_sr 8 (rs_lr x b)) := by
        rw [k1]
        exact rs_sg_cg _ _ (fun j hj _ => k5 j hj) i4
      have eB : ye1 p = nI (rs_sr 8 (rs_lr x b)).length := (k7 p (by omega)).trans i6
      have c1 : rs_ok x a → rs_ok x b → y3 = x3 := fun ha hb => (k2 ha).trans (i2 hb)
      have c0 : ¬ (rs_ok x a ∧ rs_ok x b) → y3 = 0 := by
        intro h
        by_cases oa : rs_ok x a
        · rw [k2 oa]
          exact i3 (fun ob => h ⟨oa, ob⟩)
        · exact k3 oa
      rw [pk_m1]
      by_cases hm : rs_s t = x ∨ rs_r t = x
      · obtain ⟨f2, rfl⟩ : ∃ f2, f1 = f2 + 1 := ⟨f1 - 1, by omega⟩
        have hL := rs_lenN2 (rs_lr x a) (rs_lr x b) (h := 8) (t := rs_v x t) (by omega)
        rw [rs_lr_m a b hm] at K
        refine rs_yst1 hl (by omega) hx g0 g1 hd hm (fun post' hp => ?_) (K y3 f2 (upd yl1 f2 (nI (rs_v x t))) (upd ye1 p (nI ((rs_sr 8 (rs_lr x a)).length + (rs_sr 8 (rs_lr x b)).length + 1))) (by omega) (fun h => c1 h.1 h.2.1) (fun h => c0 (fun h' => h (And.intro h'.1 ⟨h'.2, ?_⟩))) ?_ (fun j hj => (pk_un (by omega)).trans ((k5 j (by omega)).trans (i5 j hj))) ?_ (fun j hj => (pk_un (by omega)).trans ((k7 j (by omega)).trans (i7 j hj))))
        · rw [rs_ar2 (by omega)]
          exact rs_yfr2 (by omega) (by omega) k6 eB hp
        · omega
        · rw [rs_sr2 _ _ (by omega)]
          refine And.intro pk_us ((rs_sg_app _ _ _ _).mpr ⟨rs_sg_cg _ _ (fun j hj _ => pk_un (by omega)) k4, rs_sg_cg _ _ (fun j hj _ => pk_un (by omega)) sB⟩)
        · rw [pk_us, hL]
      · have wa := rs_lr_W x a g3
        have wb := rs_lr_W x b g4
        rw [rs_lr_2 a b hm h16] at K
        have nx : rs_ok x (rs_N t a b) → rs_ok x a ∧ rs_ok x b ∧ rs_sr 8 (rs_lr x a) = rs_sr 8 (rs_lr x b) := by
          rintro ⟨h1, h2, h3⟩
          refine ⟨h1, h2, ?_⟩
          rcases h3 with h | h | h | h
          · exact absurd (Or.inl h) hm
          · exact absurd (Or.inr h) hm
          · exact absurd h h16
          · rw [h]
        refine rs_yst3 (E := rs_sr 8 (rs_lr x a) = rs_sr 8 (rs_lr x b)) hl (by omega) hx (by omega) g1 hd hm h3' (fun post' p1 p0 => ?_) (fun e => ?_) (fun e => ?_) (yf' := nI (f1 + (rs_sr 8 (rs_lr x a)).length)) (yp' := nI (p + 1)) (yl' := yl1) (ye' := ye1)
        · exact rs_yjoin _ _ (by omega) (by omega) k4 sB k6 eB (fun e he => rs_mem 8 _ wa e he) (fun e he => rs_mem 8 _ wb e he) p1 p0
        · refine K y3 (f1 + (rs_sr 8 (rs_lr x a)).length) yl1 ye1 (by omega) (fun h => c1 h.1 h.2.1) (fun h => c0 (fun h' => h (And.intro h'.1 ⟨h'.2, Or.inr (Or.inr (Or.inr (rs_inj0 wa wb e)))⟩))) sB (fun j hj => (k5 j (by omega)).trans (i5 j hj)) eB (fun j hj => (k7 j (by omega)).trans (i7 j hj))
        · refine K 0 (f1 + (rs_sr 8 (rs_lr x a)).length) yl1 ye1 (by omega) (fun h => absurd (nx h).2.2 e) (fun _ => rfl) sB (fun j hj => (k5 j (by omega)).trans (i5 j hj)) eB (fun j hj => (k7 j (by omega)).trans (i7 j hj))
theorem rs_Yread {post : Int32 → SY → Prop} {ls x : Nat} {g : rs_T} (hl : ls < 2) (hx : x < 4) (hg : rs_G g) (hs : rs_sg yt (21 * ls) (rs_sr 16 g)) (h21 : (rs_sr 16 g).length ≤ 21) (hz : ys ls = nI (rs_sr 16 g).length) (K1 : ∀ (f p : Nat) (yl' ye' : Nat → Int32), f + (rs_sr 8 (rs_lr x g)).length = 21 → rs_sg yl' f (rs_sr 8 (rs_lr x g)) → rs_ok x g → post 1 (yr, yc, nI f, nI p, yt, ys, yl', ye', yn)) (K0 : ∀ (f p : Nat) (yl' ye' : Nat → Int32), f + (rs_sr 8 (rs_lr x g)).length = 21 → rs_sg yl' f (rs_sr 8 (rs_lr x g)) → ¬ rs_ok x g → post 0 (yr, yc, nI f, nI p, yt, ys, yl', ye', yn)) : wpY_read post (yr, yc, yf, yp, yt, ys, yl, ye, yn) (nI ls) (nI x) := by
  refine And.intro (vp_in_nI hl (by decide)) (nm_r (e' := nI (0 + (rs_sr 16 g).length) + (-1)) ?_ ⟨1 + (rs_sr 16 g).length, ?_⟩)
  · rw [nI_clamp (by omega), hz, rs_m1, Nat.zero_add]
  · refine rs_ytree hl hx g hg 0 1 21 0 1 yl ye hs (by omega) h21 (by omega) (by omega) (Or.inr rfl) ?_
    intro y3 f yl' ye' k1 k2 k3 k4 k5 k6 k7
    refine br_t (by decide) ?_
    by_cases ok : rs_ok x g
    · rw [k2 ok]
      exact ⟨narrow_b1, K1 f 1 yl' ye' k1 k4 ok⟩
    · rw [k3 ok]
      exact ⟨narrow_b0, K0 f 1 yl' ye' k1 k4 ok⟩
end
end
section
/-! Y: possible, send, start -/
theorem rs_sg_sh {a b : Nat → Int32} (l : List Nat) : ∀ o p, (∀ j, j < l.length → b (p + j) = a (o + j)) → rs_sg a o l → rs_sg b p l := by
  induction l with
  | nil => exact fun o p _ _ => trivial
  | cons t l ih =>
    intro o p h hs
    obtain ⟨h1, h2⟩ := hs
    refine And.intro ((h 0 (by rw [List.length_cons]; omega)).trans h1) (ih (o + 1) (p + 1) (fun j hj => ?_) h2)
    have := h (j + 1) (by rw [List.length_cons]; omega)
    rw [show p + 1 + j = p + (j + 1) by omega, show o + 1 + j = o + (j + 1) by omega]
    exact this
/-- no message with one of the two roles -/
def rs_ot (R S t : Nat) : Prop := rs_s t ≠ R ∧ rs_s t ≠ S ∧ rs_r t ≠ R ∧ rs_r t ≠ S
section
variable {yr yc yf yp : Int32} {yt ys yl ye yn : Nat → Int32}
theorem rs_yp105 {post : Int32 → Prop} {J : Int32 → Prop} {R S t : Nat} {x3 x4 z : Int32} (hR : R < 4) (hS : S < 4) (h0 : 0 < t) (h32 : t ≤ 32) (hO : rs_ot R S t → wY_possible_157 post J (nI R) (nI S) x3 x4 z 1 yr yc yf yp yt ys yl ye yn) (hN : ¬ rs_ot R S t → wY_possible_157 post J (nI R) (nI S) x3 x4 z 0 yr yc yf yp yt ys yl ye yn) : wY_possible_105 post J (nI R) (nI S) x3 x4 (nI t) z yr yc yf yp yt ys yl ye yn := by
  have hs4 := rs_s4 t
  have hr4 := rs_r4 t
  exact br_f (nI_nle h0 (by omega)) (rs_ysnd _ h0 h32 (pk_eq (rs_s t) R (fun e => hN (fun h => h.1 e)) (fun e1 => rs_ysnd _ h0 h32 (pk_eq (rs_s t) S (fun e => hN (fun h => h.2.1 e)) (fun e2 => rs_yrcv _ h0 h32 (pk_eq (rs_r t) R (fun e => hN (fun h => h.2.2.1 e)) (fun e3 => rs_yrcv _ h0 h32 (pk_eq (rs_r t) S (fun e => hN (fun h => h.2.2.2 e)) (fun e4 => hO ⟨e1, e2, e3, e4⟩)))))))))
theorem rs_yp104 {post : Int32 → Prop} {J : Int32 → Prop} {R S t o : Nat} {x3 : Int32} (hR : R < 4) (hS : S < 4) (h0 : 0 < t) (h32 : t ≤ 32) (hO : rs_ot R S t → J (nI (o + 1))) (hN : ¬ rs_ot R S t → post 0) : wY_possible_104 post J (nI R) (nI S) x3 (nI o) (nI t) yr yc yf yp yt ys yl ye yn :=
  rs_yp105 hR hS h0 h32 (fun h => br_t rfl (br_f (by decide) (br_t rfl (nm_r (nI_1 o) (hO h))))) (fun h => br_t rfl (br_t rfl (hN h)))
theorem rs_yp1 {post : Int32 → Prop} {R S L t o n N : Nat} (hR : R < 4) (hS : S < 4) (hL : L < 2) (h0 : 0 < t) (h32 : t ≤ 32) (ht : yt (21 + o) = nI t) (ho : o < 21) (hN : o < N) (hN2 : N ≤ 21) (hz : ys 1 = nI N) (h1 : rs_s t = R ∧ rs_r t = S ∧ L < rs_ar t → wpY_behind (fun r => wY_possible_42 post (nI R) (nI S) (nI L) yr yc yf yp yt ys yl ye yn n r) (yr, yc, yf, yp, yt, ys, yl, ye, yn) (nI o)) (h2 : ¬ (rs_s t = R ∧ rs_r t = S ∧ L < rs_ar t) → rs_ot R S t → wY_possible_42 post (nI R) (nI S) (nI L) yr yc yf yp yt ys yl ye yn n (nI (o + 1))) (h3 : ¬ (rs_s t = R ∧ rs_r t = S ∧ L < rs_ar t) → ¬ rs_ot R S t → post 0) : wY_possible_42 post (nI R) (nI S) (nI L) yr yc yf yp yt ys yl ye yn (n + 1) (nI o) := by
  have hs4 := rs_s4 t
  have hr4 := rs_r4 t
  have ha := rs_ar_le t
  refine br_f (by rw [hz]; exact nI_ge hN (by omega)) ?_
  rw [show (21 : Int32) + nI o = nI (21 + o) from nI_add 21 o, nI_clamp (by omega)]
  refine ⟨vp_in_nI (by omega) (by decide), nm_r ht (br_f (nI_nle h0 (by omega)) ?_)⟩
  refine rs_ysnd _ h0 h32 (pk_eq (rs_s t) R (fun e1 => rs_yrcv _ h0 h32 (pk_eq (rs_r t) S (fun e2 => rs_ypl _ h32 (pk_le (rs_ar t) L (fun e3 => ?_) (fun e3 => ?_))) (fun e2 => ?_))) (fun e1 => ?_))
  · exact rs_yp104 hR hS h0 h32 (h2 (by omega)) (h3 (by omega))
  · exact rs_yp105 hR hS h0 h32 (fun _ => br_f (by decide) (br_f (by decide) (h1 ⟨e1, e2, e3⟩))) (fun _ => br_f (by decide) (br_f (by decide) (h1 ⟨e1, e2, e3⟩)))
  · exact rs_yp104 hR hS h0 h32 (h2 (by omega)) (h3 (by omega))
  · exact rs_yp104 hR hS h0 h32 (h2 (by omega)) (h3 (by omega))
theorem rs_yptree {post : Int32 → Prop} {R S L N : Nat} (hR : R < 4) (hS : S < 4) (hL : L < 2) (hN2 : N ≤ 21) (hz : ys 1 = nI N) (g : rs_T) : rs_G g → ∀ o n : Nat, rs_sg yt (21 + o) (rs_sr 16 g) → o + (rs_sr 16 g).length ≤ N → (rs_ps R S L g → ∀ k, n ≤ k → wY_possible_42 post (nI R) (nI S) (nI L) yr yc yf yp yt ys yl ye yn k (nI (o + (rs_sr 16 g).length))) → (¬ rs_ps R S L g → post 0) → ∀ k, n + (rs_sr 16 g).length ≤ k → wY_possible_42 post (nI R) (nI S) (nI L) yr yc yf yp yt ys yl ye yn k (nI o) := by
  induction g with
  | leaf u =>
    intro hg o n hs ho K1 K0 k hk
    have ho' : o + 1 ≤ N := ho
    have hk' : n + 1 ≤ k := hk
    obtain ⟨m, rfl⟩ : ∃ m, k = m + 1 := ⟨k - 1, by omega⟩
    have ht : yt (21 + o) = nI 0 := rs_sg_hd hs
    refine br_f (by rw [hz]; exact nI_ge (by omega) (by omega)) ?_
    rw [show (21 : Int32) + nI o = nI (21 + o) from nI_add 21 o, nI_clamp (by omega)]
    refine ⟨vp_in_nI (by omega) (by decide), nm_r ht (br_t (by decide) (br_t (by decide) (br_t rfl (br_t rfl (K0 (fun h => h.elim))))))⟩
  | branch t a b ia ib =>
    intro hg o n hs ho K1 K0 k hk
    have hg' := hg
    obtain ⟨g0, g1, g2, g3, g4, g5⟩ := hg'
    have hd : yt (21 + o) = nI t := rs_sg_hd hs
    have la := rs_len1 16 a
    have l0 := rs_len1 16 (rs_N t a b)
    rw [show rs_sr 16 (Lean.RArray.branch t a b) = rs_sr 16 (rs_N t a b) from rfl] at hs ho K1 hk
    obtain ⟨m, rfl⟩ : ∃ m, k = m + 1 := ⟨k - 1, by omega⟩
    refine rs_yp1 hR hS hL g0 g1 hd (by omega) (by omega) hN2 hz (fun hm => ?_) (fun hm hot => ?_) (fun hm hot => ?_)
    · exact rs_Ybeh (g := rs_N t a b) hg hs (by omega) (K1 (Or.inl hm) m (by omega))
    · by_cases h16 : t ≤ 16
      · have hN := rs_lenN1 a b h16
        obtain ⟨_, hsa⟩ := rs_sg1 a b h16 hs
        have E2 : o + (rs_sr 16 (rs_N t a b)).length = (o + 1) + (rs_sr 16 a).length := by omega
        rw [E2] at K1
        refine ia g3 (o + 1) n (rs_sg_at hsa (by omega)) (by omega) (fun hp => K1 (Or.inr ⟨hot, hp, Or.inl h16⟩)) (fun hp => K0 (fun h => ?_)) m (by omega)
        rcases h with h | h
        · exact hm h
        · exact hp h.2.1
      · have hN := rs_lenN2 a b (h := 16) (t := t) (by omega)
        obtain ⟨_, hsa, hsb⟩ := rs_sg2 a b (by omega) hs
        have E2 : o + (rs_sr 16 (rs_N t a b)).length = (o + 1 + (rs_sr 16 a).length) + (rs_sr 16 b).length := by omega
        rw [E2] at K1
        refine ia g3 (o + 1) (n + (rs_sr 16 b).length) (rs_sg_at hsa (by omega)) (by omega) (fun hp => ?_) (fun hp => K0 (fun h => ?_)) m (by omega)
        · refine ib g4 (o + 1 + (rs_sr 16 a).length) n (rs_sg_at hsb (by omega)) (by omega) (fun hq => K1 (Or.inr ⟨hot, hp, Or.inr hq⟩)) (fun hq => K0 (fun h => ?_))
          rcases h with h | h
          · exact hm h
          · exact hq (h.2.2.resolve_left h16)
        · rcases h with h | h
          · exact hm h
          · exact hp h.2.1
    · refine K0 (fun h => ?_)
      rcases h with h | h
      · exact hm h
      · exact hot h.1
theorem rs_Yps {post : Int32 → Prop} {R S L : Nat} {h : rs_T} (hR : R < 4) (hS : S < 4) (hRS : R ≠ S) (hL : L < 2) (hr : yr = 1) (hg : rs_G h) (hs : rs_sg yt 21 (rs_sr 16 h)) (h21 : (rs_sr 16 h).length ≤ 21) (hz : ys 1 = nI (rs_sr 16 h).length) (K1 : rs_ps R S L h → post 1) (K0 : ¬ rs_ps R S L h → post 0) : wpY_possible post (yr, yc, yf, yp, yt, ys, yl, ye, yn) (nI R) (nI S) (nI L) := by
  refine br_f (by rw [hr]; decide) (rs_yrole1 _ hR (br_f (by decide) (rs_yrole1 _ hS (br_f (by decide) ?_))))
  refine pk_eq R S (fun e => absurd e hRS) (fun _ => br_f (nI_pos (by omega)) (br_t (nI_le (b := 1) (by omega) (by decide)) ⟨1 + (rs_sr 16 h).length, ?_⟩))
  refine rs_yptree hR hS hL h21 hz h hg 0 1 hs (by omega) (fun hp k hk => ?_) K0 _ (by omega)
  obtain ⟨m, rfl⟩ : ∃ m, k = m + 1 := ⟨k - 1, by omega⟩
  refine br_t ?_ (K1 hp)
  rw [hz, Nat.zero_add]
  exact nI_le (Nat.le_refl _) (by omega)
/-! send -/
theorem rs_ys123 {post : Int32 → SY → Prop} {J : Int32 → Int32 → (Nat → Int32) → (Nat → Int32) → (Nat → Int32) → (Nat → Int32) → (Nat → Int32) → Prop} {x1 x2 x3 x5 x7 : Int32} {e : Nat} (he : e ≤ 21) (l : List Nat) : ∀ (k m : Nat) (yn : Nat → Int32), rs_sg yt (21 + k) l → k + l.length = e → m + l.length ≤ 21 → (∀ yn' : Nat → Int32, rs_sg yn' m l → (∀ j, j < m → yn' j = yn j) → ((x7 = 0 → ∀ x5' : Int32, x5' = x5 + 1 → J (nI (m + l.length)) x5' yt ys yl ye yn') ∧ (¬ x7 = 0 → wpY_behind (fun r => J (nI (m + l.length)) r yt ys yl ye yn') (yr, yc, yf, yp, yt, ys, yl, ye, yn') x5))) → wY_send_123 post J x1 x2 x3 x5 x7 (nI e) yr yc yf yp (l.length + 1) (nI m) (nI k) yt ys yl ye yn := by
  induction l with
  | nil =>
    intro k m yn hs hk hm K
    have hk' : k = e := hk
    subst hk'
    exact br_t (nI_le (Nat.le_refl k) (by omega)) (K yn trivial (fun _ _ => rfl))
  | cons t l ih =>
    intro k m yn hs hk hm K
    obtain ⟨s1, s2⟩ := hs
    rw [List.length_cons] at hk hm
    refine br_f (nI_ge (by omega) (by omega)) ?_
    rw [show (21 : Int32) + nI k = nI (21 + k) from nI_add 21 k]
    refine ⟨vp_in_nI (by omega) (by decide), vp_in_nI (by omega) (by decide), nm_r (e' := upd yn m (nI t)) (by rw [nI_clamp (by omega), nI_clamp (by omega), s1]) (nm_r (nI_1 m) (nm_r (nI_1 k) ?_))⟩
    refine ih (k + 1) (m + 1) _ (rs_sg_at s2 (by omega)) (by omega) (by omega) ?_
    intro yn' h1 h2
    rw [show m + 1 + l.length = m + (t :: l).length by rw [List.length_cons]; omega]
    refine K yn' (And.intro ((h2 m (by omega)).trans pk_us) h1) (fun j hj => (h2 j (by omega)).trans (pk_un (by omega)))
theorem rs_ys182 {post : Int32 → SY → Prop} {M : Nat} (hM : M ≤ 21) {yt0 : Nat → Int32} (K : ∀ yt' : Nat → Int32, (∀ j, j < 21 → yt' j = yt0 j) → (∀ j, j < M → yt' (21 + j) = yn j) → post 1 (yr, yc + 1, yf, yp, yt', upd ys 1 (nI M), yl, ye, yn)) : ∀ (d i : Nat) (yt : Nat → Int32), i + d = M → (∀ j, j < 21 → yt j = yt0 j) → (∀ j, j < i → yt (21 + j) = yn j) → wY_send_182 post (nI M) yr yc yf yp (d + 1) (nI i) yt ys yl ye yn := by
  intro d
  induction d with
  | zero =>
    intro i yt hi h1 h2
    have e : i = M := hi
    subst e
    exact br_t (nI_le (Nat.le_refl i) (by omega)) (nm_e (nm_e (K yt h1 h2)))
  | succ d ih =>
    intro i yt hi h1 h2
    refine br_f (nI_ge (by omega) (by omega)) ?_
    rw [show (21 : Int32) + nI i = nI (21 + i) from nI_add 21 i]
    refine ⟨vp_in_nI (by omega) (by decide), vp_in_nI (by omega) (by decide), nm_r (e' := upd yt (21 + i) (yn i)) (by rw [nI_clamp (by omega), nI_clamp (by omega)]) (nm_r (nI_1 i) ?_)⟩
    refine ih (i + 1) _ (by omega) (fun j hj => (pk_un (by omega)).trans (h1 j hj)) (fun j hj => ?_)
    by_cases e : j = i
    · rw [e, pk_us]
    · rw [pk_un (by omega)]
      exact h2 j (by omega)
theorem rs_ys18s {post : Int32 → SY → Prop} {R S L t o n N m : Nat} (hR : R < 4) (hS : S < 4) (h0 : 0 < t) (h32 : t ≤ 32) (ht : yt (21 + o) = nI t) (ho : o < 21) (hN : o < N) (hN2 : N ≤ 21) (hz : ys 1 = nI N) (h1 : rs_s t = R ∧ rs_r t = S → wY_send_66 post (wY_send_18 post (nI R) (nI S) (nI L) yr yc yf yp n) (nI R) (nI S) (nI L) (nI m) (nI o) 1 yr yc yf yp yt ys yl ye yn) (h2 : ¬ (rs_s t = R ∧ rs_r t = S) → wY_send_65 post (wY_send_18 post (nI R) (nI S) (nI L) yr yc yf yp n) (nI R) (nI S) (nI L) (nI m) (nI o) yr yc yf yp yt ys yl ye yn) : wY_send_18 post (nI R) (nI S) (nI L) yr yc yf yp (n + 1) (nI m) (nI o) yt ys yl ye yn := by
  have hs4 := rs_s4 t
  have hr4 := rs_r4 t
  refine br_f (by rw [hz]; exact nI_ge hN (by omega)) ?_
  rw [show (21 : Int32) + nI o = nI (21 + o) from nI_add 21 o, nI_clamp (by omega)]
  refine ⟨vp_in_nI (by omega) (by decide), nm_r ht ?_⟩
  exact rs_ysnd _ h0 h32 (pk_eq (rs_s t) R (fun e1 => rs_yrcv _ h0 h32 (pk_eq (rs_r t) S (fun e2 => h1 ⟨e1, e2⟩) (fun e2 => h2 (fun h => e2 h.2)))) (fun e1 => h2 (fun h => e1 h.1)))
/-- the segment of a plan is put behind what is written, then the loop goes on behind the message -/
theorem rs_ys97 {post : Int32 → SY → Prop} {R S L o n m k : Nat} {a g : rs_T} (ha : rs_G a) (hg : rs_G g) (hsa : rs_sg yt (21 + k) (rs_sr 16 a)) (hk : k + (rs_sr 16 a).length ≤ 21) (hsg : rs_sg yt (21 + o) (rs_sr 16 g)) (ho : o + (rs_sr 16 g).length ≤ 21) (hm : m + (rs_sr 16 a).length ≤ 21) (K : ∀ yn' : Nat → Int32, rs_sg yn' m (rs_sr 16 a) → (∀ j, j < m → yn' j = yn j) → wY_send_18 post (nI R) (nI S) (nI L) yr yc yf yp n (nI (m + (rs_sr 16 a).length)) (nI (o + (rs_sr 16 g).length)) yt ys yl ye yn') : wY_send_97 post (wY_send_18 post (nI R) (nI S) (nI L) yr yc yf yp n) (nI R) (nI S) (nI L) (nI m) (nI o) 1 (nI k) yr yc yf yp yt ys yl ye yn := by
  refine br_f (by decide) (rs_Ybeh ha hsa hk ⟨(rs_sr 16 a).length + 1, ?_⟩)
  refine rs_ys123 hk (rs_sr 16 a) k m yn hsa rfl hm (fun yn' h1 h2 => br_f (by decide) ?_)
  exact rs_Ybeh hg hsg ho (K yn' h1 h2)
theorem rs_ystree {post : Int32 → SY → Prop} {R S L N : Nat} (hR : R < 4) (hS : S < 4) (hL : L < 2) (hN2 : N ≤ 21) (hz : ys 1 = nI N) (g : rs_T) : rs_G g → rs_ps R S L g → ∀ (o m n : Nat) (yn : Nat → Int32), rs_sg yt (21 + o) (rs_sr 16 g) → o + (rs_sr 16 g).length ≤ N → m ≤ o → (∀ (k : Nat) (yn' : Nat → Int32), n ≤ k → rs_sg yn' m (rs_sr 16 (rs_sd R S L g)) → (∀ j, j < m → yn' j = yn j) → wY_send_18 post (nI R) (nI S) (nI L) yr yc yf yp k (nI (m + (rs_sr 16 (rs_sd R S L g)).length)) (nI (o + (rs_sr 16 g).length)) yt ys yl ye yn') → ∀ k, n + (rs_sr 16 g).length ≤ k → wY_send_18 post (nI R) (nI S) (nI L) yr yc yf yp k (nI m) (nI o) yt ys yl ye yn := by
  induction g with
  | leaf u =>
    intro hg hp
    exact hp.elim
  | branch t a b ia ib =>
    intro hg hp o m n yn hs ho hmo K k hk
    have hg' := hg
    obtain ⟨g0, g1, g2, g3, g4, g5⟩ := hg'
    have hd : yt (21 + o) = nI t := rs_sg_hd hs
    have la := rs_len1 16 a
    have lb := rs_len1 16 b
    have l0 := rs_len1 16 (rs_N t a b)
    have hsd := rs_sd_len R S L (rs_N t a b) hg hp
    rw [show rs_sr 16 (Lean.RArray.branch t a b) = rs_sr 16 (rs_N t a b) from rfl] at hs ho hk
    obtain ⟨i, rfl⟩ : ∃ i, k = i + 1 := ⟨k - 1, by omega⟩
    refine rs_ys18s hR hS g0 g1 hd (by omega) (by omega) hN2 hz (fun hm => ?_) (fun hm => ?_)
    · have e1 : rs_sd R S L (Lean.RArray.branch t a b) = if L = 0 then a else b := rs_sd_m a b hm
      rw [e1] at K
      have hl : L < rs_ar t := by
        rcases hp with h | h
        · exact h.2.2
        · exact absurd hm.1 h.1.1
      by_cases l0 : L = 0
      · have hsa : rs_sg yt (21 + (o + 1)) (rs_sr 16 a) ∧ (rs_sr 16 a).length + 1 ≤ (rs_sr 16 (rs_N t a b)).length := by
          by_cases h16 : t ≤ 16
          · exact ⟨rs_sg_at (rs_sg1 a b h16 hs).2 (by omega), by rw [rs_lenN1 a b h16]; omega⟩
          · exact ⟨rs_sg_at (rs_sg2 a b (by omega) hs).2.1 (by omega), by rw [rs_lenN2 a b (h := 16) (by omega)]; omega⟩
        rw [if_pos l0] at K
        subst l0
        refine br_f (by decide) (br_t rfl ?_)
        rw [nI_1]
        exact rs_ys97 (a := a) (g := rs_N t a b) g3 hg hsa.1 (by omega) hs (by omega) (by omega) (fun yn' h1 h2 => K i yn' (by omega) h1 h2)
      · have h16 : ¬ t ≤ 16 := by
          intro h16
          rw [rs_ar1 g0 h16] at hl
          omega
        have hN := rs_lenN2 a b (h := 16) (t := t) (by omega)
        obtain ⟨_, hsa, hsb⟩ := rs_sg2 a b (by omega) hs
        rw [if_neg l0] at K
        refine br_f (by decide) (br_f (nI_ne0 (by omega) (by omega)) ?_)
        rw [nI_1]
        refine rs_Ybeh g3 (rs_sg_at hsa (by omega)) (by omega) ?_
        exact rs_ys97 (a := b) (g := rs_N t a b) g4 hg (rs_sg_at hsb (by omega)) (by omega) hs (by omega) (by omega) (fun yn' h1 h2 => K i yn' (by omega) h1 h2)
    · have e1 : rs_sd R S L (Lean.RArray.branch t a b) = rs_N t (rs_sd R S L a) (rs_sd R S L b) := rs_sd_n a b hm
      rw [e1] at K
      have hp' : rs_ps R S L a ∧ (t ≤ 16 ∨ rs_ps R S L b) := by
        rcases hp with h | h
        · exact absurd ⟨h.1, h.2.1⟩ hm
        · exact h.2
      have da := rs_sd_len R S L a g3 hp'.1
      refine br_t rfl (br_t rfl (nm_r (nI_1 o) ⟨1 + 1, ?_⟩))
      refine rs_ys123 (l := [t]) (e := o + 1) (by omega) o m yn (And.intro hd trivial) rfl (by show m + 1 ≤ 21; omega) (fun yn1 h1 h2 => br_t rfl (nm_r (nI_1 o) ?_))
      show wY_send_18 post (nI R) (nI S) (nI L) yr yc yf yp i (nI (m + 1)) (nI (o + 1)) yt ys yl ye yn1
      by_cases h16 : t ≤ 16
      · have hN := rs_lenN1 a b h16
        have hN' := rs_lenN1 (rs_sd R S L a) (rs_sd R S L b) h16
        obtain ⟨_, hsa⟩ := rs_sg1 a b h16 hs
        refine ia g3 hp'.1 (o + 1) (m + 1) n yn1 (rs_sg_at hsa (by omega)) (by omega) (by omega) ?_ i (by omega)
        intro k yn2 hk i1 i2
        have := K k yn2 hk (by rw [rs_sr1 _ _ h16]; exact And.intro ((i2 m (by omega)).trans h1.1) i1) (fun j hj => (i2 j (by omega)).trans (h2 j hj))
        rw [show m + 1 + (rs_sr 16 (rs_sd R S L a)).length = m + (rs_sr 16 (rs_N t (rs_sd R S L a) (rs_sd R S L b))).length by omega, show o + 1 + (rs_sr 16 a).length = o + (rs_sr 16 (rs_N t a b)).length by omega]
        exact this
      · have hN := rs_lenN2 a b (h := 16) (t := t) (by omega)
        have hN' := rs_lenN2 (rs_sd R S L a) (rs_sd R S L b) (h := 16) (t := t) (by omega)
        obtain ⟨_, hsa, hsb⟩ := rs_sg2 a b (by omega) hs
        refine ia g3 hp'.1 (o + 1) (m + 1) (n + (rs_sr 16 b).length) yn1 (rs_sg_at hsa (by omega)) (by omega) (by omega) ?_ i (by omega)
        intro k yn2 hk i1 i2
        refine ib g4 (hp'.2.resolve_left h16) (o + 1 + (rs_sr 16 a).length) (m + 1 + (rs_sr 16 (rs_sd R S L a)).length) n yn2 (rs_sg_at hsb (by omega)) (by omega) (by omega) ?_ k hk
        intro k' yn3 hk' j1 j2
        have s1 : rs_sg yn3 (m + 1) (rs_sr 16 (rs_sd R S L a) ++ rs_sr 16 (rs_sd R S L b)) := (rs_sg_app _ _ _ _).mpr ⟨rs_sg_cg _ _ (fun j _ hj => j2 j (by omega)) i1, j1⟩
        have := K k' yn3 hk' (by rw [rs_sr2 _ _ (by omega)]; exact And.intro (((j2 m (by omega)).trans (i2 m (by omega))).trans h1.1) s1) (fun j hj => ((j2 j (by omega)).trans (i2 j (by omega))).trans (h2 j hj))
        rw [show m + 1 + (rs_sr 16 (rs_sd R S L a)).length + (rs_sr 16 (rs_sd R S L b)).length = m + (rs_sr 16 (rs_N t (rs_sd R S L a) (rs_sd R S L b))).length by omega, show o + 1 + (rs_sr 16 a).length + (rs_sr 16 b).length = o + (rs_sr 16 (rs_N t a b)).length by omega]
        exact this
theorem rs_Ysd {post : Int32 → SY → Prop} {R S L : Nat} {h : rs_T} (hR : R < 4) (hS : S < 4) (hRS : R ≠ S) (hL : L < 2) (hr : yr = 1) (hg : rs_G h) (hs : rs_sg yt 21 (rs_sr 16 h)) (h21 : (rs_sr 16 h).length ≤ 21) (hz : ys 1 = nI (rs_sr 16 h).length) (hp : rs_ps R S L h) (K : ∀ (yt' yn' : Nat → Int32), (∀ j, j < 21 → yt' j = yt j) → rs_sg yt' 21 (rs_sr 16 (rs_sd R S L h)) → post 1 (yr, yc + 1, yf, yp, yt', upd ys 1 (nI (rs_sr 16 (rs_sd R S L h)).length), yl, ye, yn')) : wpY_send post (yr, yc, yf, yp, yt, ys, yl, ye, yn) (nI R) (nI S) (nI L) := by
  unfold wpY_send
  refine rs_Yps hR hS hRS hL hr hg hs h21 hz (fun _ => br_f (by decide) ⟨1 + (rs_sr 16 h).length, ?_⟩) (fun hn => absurd hp hn)
  have hl := rs_sd_len R S L h hg hp
  refine rs_ystree hR hS hL h21 hz h hg hp 0 0 1 yn hs (by omega) (by omega) ?_ _ (by omega)
  intro k yn' hk h1 h2
  obtain ⟨m, rfl⟩ : ∃ m, k = m + 1 := ⟨k - 1, by omega⟩
  rw [Nat.zero_add, Nat.zero_add]
  refine br_t (by rw [hz]; exact nI_le (Nat.le_refl _) (by omega)) ⟨(rs_sr 16 (rs_sd R S L h)).length + 1, ?_⟩
  refine rs_ys182 (yt0 := yt) (by omega) (fun yt' k1 k2 => K yt' yn' k1 (rs_sg_sh _ 0 21 (fun j hj => ?_) h1)) _ 0 yt (by omega) (fun _ _ => rfl) (fun j hj => by omega)
  rw [k2 j hj, Nat.zero_add]
/-! start -/
theorem rs_yst11 {post : Int32 → SY → Prop} {N : Nat} (hN : N ≤ 21) (hz : ys 0 = nI N) {yt0 : Nat → Int32} (K : ∀ yt' : Nat → Int32, (∀ j, j < 21 → yt' j = yt0 j) → (∀ j, j < N → yt' (21 + j) = yt0 j) → post 1 (1, 0, yf, yp, yt', upd ys 1 (nI N), yl, ye, yn)) : ∀ (d i : Nat) (yt : Nat → Int32), i + d = N → (∀ j, j < 21 → yt j = yt0 j) → (∀ j, j < i → yt (21 + j) = yt0 j) → wY_start_11 post yr yc yf yp (d + 1) (nI i) yt ys yl ye yn := by
  intro d
  induction d with
  | zero =>
    intro i yt hi h1 h2
    have e : i = N := hi
    subst e
    exact br_t (by rw [hz]; exact nI_le (Nat.le_refl i) (by omega)) (nm_r (e' := upd ys 1 (nI i)) (by rw [hz]) (K yt h1 h2))
  | succ d ih =>
    intro i yt hi h1 h2
    refine br_f (by rw [hz]; exact nI_ge (by omega) (by omega)) ?_
    rw [show (21 : Int32) + nI i = nI (21 + i) from nI_add 21 i]
    refine ⟨vp_in_nI (by omega) (by decide), vp_in_nI (by omega) (by decide), nm_r (e' := upd yt (21 + i) (yt0 i)) (by rw [nI_clamp (by omega), nI_clamp (by omega), h1 i (by omega)]) (nm_r (nI_1 i) ?_)⟩
    refine ih (i + 1) _ (by omega) (fun j hj => (pk_un (by omega)).trans (h1 j hj)) (fun j hj => ?_)
    by_cases e : j = i
    · rw [e, pk_us]
    · rw [pk_un (by omega)]
      exact h2 j (by omega)
end
end
section
/-! Y against the pure state -/
def rs_YS (l : List Nat) (hh : Option rs_T) (s : Int32) (v : SY) : Prop := match v with
  | (yr, yc, yf, yp, yt, ys, yl, ye, yn) => ys 0 = nI l.length ∧ rs_sg yt 0 l ∧ yc = s ∧ ((hh = none ∧ yr = 0) ∨ ∃ h, hh = some h ∧ yr = 1 ∧ rs_sg yt 21 (rs_sr 16 h) ∧ ys 1 = nI (rs_sr 16 h).length)
/-- the part p lies read off at the end of the cells -/
def rs_YL (p : rs_T) (v : SY) : Prop := match v with
  | (yr, yc, yf, yp, yt, ys, yl, ye, yn) => ∃ f : Nat, yf = nI f ∧ f + (rs_sr 8 p).length = 21 ∧ rs_sg yl f (rs_sr 8 p)
theorem rs_Ycomp {l : List Nat} {hh : Option rs_T} {s : Int32} {v : SY} {post : Int32 → Prop} (hA : rs_A l hh) (hY : rs_YS l hh s v) (h1 : rs_nd 1 l = 0 → post 1) (h0 : rs_nd 1 l ≠ 0 → post 0) : wpY_complete post v := by
  obtain ⟨yr, yc, yf, yp, yt, ys, yl, ye, yn⟩ := v
  obtain ⟨b1, b2, b3, b4⟩ := hY
  exact rs_ycomp b2 hA.1 hA.2.1 hA.2.2.1 b1 h1 h0
theorem rs_Yfix0 {x : Int32} {v : SY} {post : Int32 → SY → Prop} (hx : ∀ r, r < 4 → x ≠ nI r) (hp : post 0 v) : wpY_fixed post v x := by
  obtain ⟨yr, yc, yf, yp, yt, ys, yl, ye, yn⟩ := v
  unfold wpY_fixed
  exact rs_yrole0 _ hx (br_t rfl hp)
theorem rs_YfixN {l : List Nat} {hh : Option rs_T} {s : Int32} {v : SY} {post : Int32 → SY → Prop} {x : Nat} (hx : x < 4) (hA : rs_A l hh) (hY : rs_YS l hh s v) (hn : rs_nd 1 l ≠ 0) (hp : post 0 v) : wpY_fixed post v (nI x) := by
  obtain ⟨yr, yc, yf, yp, yt, ys, yl, ye, yn⟩ := v
  unfold wpY_fixed
  exact rs_yrole1 _ hx (br_f (by decide) (rs_Ycomp hA hY (fun h => absurd h hn) (fun _ => br_t rfl hp)))
theorem rs_Yfix {g : rs_T} {hh : Option rs_T} {s : Int32} {v : SY} {post : Int32 → SY → Prop} {x : Nat} (hx : x < 4) (hg : rs_G g) (hA : rs_A (rs_sr 16 g) hh) (hY : rs_YS (rs_sr 16 g) hh s v) (K1 : ∀ v', rs_YS (rs_sr 16 g) hh s v' → rs_YL (rs_lr x g) v' → rs_ok x g → post 1 v') (K0 : ∀ v', rs_YS (rs_sr 16 g) hh s v' → ¬ rs_ok x g → post 0 v') : wpY_fixed post v (nI x) := by
  obtain ⟨yr, yc, yf, yp, yt, ys, yl, ye, yn⟩ := v
  unfold wpY_fixed
  refine rs_yrole1 _ hx (br_f (by decide) (rs_Ycomp hA hY (fun _ => br_f (by decide) ?_) (fun h => absurd (rs_nd_sr1 hg) h)))
  have hY' := hY
  obtain ⟨b1, b2, b3, b4⟩ := hY'
  refine rs_Yread (ls := 0) (by decide) hx hg b2 hA.2.2.1 b1 ?_ ?_
  · intro f p yl' ye' k1 k2 k3
    exact br_f (by decide) (K1 _ (And.intro b1 ⟨b2, b3, b4⟩) (Exists.intro f ⟨rfl, k1, k2⟩) k3)
  · intro f p yl' ye' k1 k2 k3
    exact br_t rfl (K0 _ (And.intro b1 ⟨b2, b3, b4⟩) k3)
theorem rs_YfitN {l : List Nat} {hh : Option rs_T} {s : Int32} {v : SY} {post : Int32 → SY → Prop} (hA : rs_A l hh) (hY : rs_YS l hh s v) (hn : rs_nd 1 l ≠ 0) (hp : post 0 v) : wpY_fit post v := by
  obtain ⟨yr, yc, yf, yp, yt, ys, yl, ye, yn⟩ := v
  unfold wpY_fit
  exact rs_YfixN (x := 0) (by decide) hA hY hn (br_t rfl hp)
theorem rs_Yfit {g : rs_T} {hh : Option rs_T} {s : Int32} {v : SY} {post : Int32 → SY → Prop} (hg : rs_G g) (hA : rs_A (rs_sr 16 g) hh) (hY : rs_YS (rs_sr 16 g) hh s v) (K1 : ∀ v', rs_YS (rs_sr 16 g) hh s v' → (∀ x, x < 4 → rs_ok x g) → post 1 v') (K0 : ∀ v', rs_YS (rs_sr 16 g) hh s v' → ¬ (∀ x, x < 4 → rs_ok x g) → post 0 v') : wpY_fit post v := by
  obtain ⟨yr, yc, yf, yp, yt, ys, yl, ye, yn⟩ := v
  unfold wpY_fit
  refine rs_Yfix (x := 0) (by decide) hg hA hY ?_ (fun v' hv ok => ?_)
  · intro v' hv _ ok0
    obtain ⟨yr, yc, yf, yp, yt, ys, yl, ye, yn⟩ := v'
    refine br_f (by decide) ?_
    refine rs_Yfix (x := 1) (by decide) hg hA hv ?_ (fun v' hv ok => ?_)
    · intro v' hv _ ok1
      obtain ⟨yr, yc, yf, yp, yt, ys, yl, ye, yn⟩ := v'
      refine br_f (by decide) ?_
      refine rs_Yfix (x := 2) (by decide) hg hA hv ?_ (fun v' hv ok => ?_)
      · intro v' hv _ ok2
        obtain ⟨yr, yc, yf, yp, yt, ys, yl, ye, yn⟩ := v'
        refine br_f (by decide) ?_
        refine rs_Yfix (x := 3) (by decide) hg hA hv ?_ (fun v' hv ok => ?_)
        · intro v' hv _ ok3
          obtain ⟨yr, yc, yf, yp, yt, ys, yl, ye, yn⟩ := v'
          refine br_f (by decide) (K1 _ hv (fun x hx => ?_))
          rcases (show x = 0 ∨ x = 1 ∨ x = 2 ∨ x = 3 by omega) with e | e | e | e
          · rw [e]; exact ok0
          · rw [e]; exact ok1
          · rw [e]; exact ok2
          · rw [e]; exact ok3
        · obtain ⟨yr, yc, yf, yp, yt, ys, yl, ye, yn⟩ := v'
          exact br_t rfl (K0 _ hv (fun hx => ok (hx 3 (by decide))))
      · obtain ⟨yr, yc, yf, yp, yt, ys, yl, ye, yn⟩ := v'
        exact br_t rfl (K0 _ hv (fun hx => ok (hx 2 (by decide))))
    · obtain ⟨yr, yc, yf, yp, yt, ys, yl, ye, yn⟩ := v'
      exact br_t rfl (K0 _ hv (fun hx => ok (hx 1 (by decide))))
  · obtain ⟨yr, yc, yf, yp, yt, ys, yl, ye, yn⟩ := v'
    exact br_t rfl (K0 _ hv (fun hx => ok (hx 0 (by decide))))
theorem rs_YL_mea {p : rs_T} {v : SY} {post : Int32 → Prop} (hp : rs_W 8 p) (h : rs_YL p v) (K : post (nI (rs_sz p))) : wpY_measure post v := by
  obtain ⟨yr, yc, yf, yp, yt, ys, yl, ye, yn⟩ := v
  obtain ⟨f, h1, h2, h3⟩ := h
  subst h1
  exact rs_Ymea hp h3 h2 K
theorem rs_Ysize0 {x : Int32} {v : SY} {post : Int32 → SY → Prop} (hx : ∀ r, r < 4 → x ≠ nI r) (hp : post (-1) v) : wpY_size post v x := by
  obtain ⟨yr, yc, yf, yp, yt, ys, yl, ye, yn⟩ := v
  unfold wpY_size
  exact rs_Yfix0 hx (br_t rfl hp)
theorem rs_YsizeN {l : List Nat} {hh : Option rs_T} {s : Int32} {v : SY} {post : Int32 → SY → Prop} {x : Nat} (hx : x < 4) (hA : rs_A l hh) (hY : rs_YS l hh s v) (hn : rs_nd 1 l ≠ 0) (hp : post (-1) v) : wpY_size post v (nI x) := by
  obtain ⟨yr, yc, yf, yp, yt, ys, yl, ye, yn⟩ := v
  unfold wpY_size
  exact rs_YfixN hx hA hY hn (br_t rfl hp)
theorem rs_Ysize {g : rs_T} {hh : Option rs_T} {s : Int32} {v : SY} {post : Int32 → SY → Prop} {x : Nat} (hx : x < 4) (hg : rs_G g) (hA : rs_A (rs_sr 16 g) hh) (hY : rs_YS (rs_sr 16 g) hh s v) (K1 : ∀ v', rs_YS (rs_sr 16 g) hh s v' → rs_ok x g → post (nI (rs_sz (rs_lr x g))) v') (K0 : ∀ v', rs_YS (rs_sr 16 g) hh s v' → ¬ rs_ok x g → post (-1) v') : wpY_size post v (nI x) := by
  obtain ⟨yr, yc, yf, yp, yt, ys, yl, ye, yn⟩ := v
  unfold wpY_size
  refine rs_Yfix hx hg hA hY (fun v' hv hL ok => ?_) (fun v' hv ok => ?_)
  · obtain ⟨yr, yc, yf, yp, yt, ys, yl, ye, yn⟩ := v'
    exact br_f (by decide) (rs_YL_mea (rs_lr_W x g hg) hL (K1 _ hv ok))
  · obtain ⟨yr, yc, yf, yp, yt, ys, yl, ye, yn⟩ := v'
    exact br_t rfl (K0 _ hv ok)
theorem rs_YstartN {l : List Nat} {hh : Option rs_T} {s : Int32} {v : SY} {post : Int32 → SY → Prop} (hA : rs_A l hh) (hY : rs_YS l hh s v) (hn : rs_nd 1 l ≠ 0) (hp : post 0 v) : wpY_start post v := by
  obtain ⟨yr, yc, yf, yp, yt, ys, yl, ye, yn⟩ := v
  unfold wpY_start
  exact rs_YfitN hA hY hn (br_t rfl hp)
theorem rs_Ystart {g : rs_T} {hh : Option rs_T} {s : Int32} {v : SY} {post : Int32 → SY → Prop} (hg : rs_G g) (hA : rs_A (rs_sr 16 g) hh) (hY : rs_YS (rs_sr 16 g) hh s v) (K1 : ∀ v', rs_YS (rs_sr 16 g) (some g) 0 v' → (∀ x, x < 4 → rs_ok x g) → post 1 v') (K0 : ∀ v', rs_YS (rs_sr 16 g) hh s v' → ¬ (∀ x, x < 4 → rs_ok x g) → post 0 v') : wpY_start post v := by
  obtain ⟨yr, yc, yf, yp, yt, ys, yl, ye, yn⟩ := v
  unfold wpY_start
  refine rs_Yfit hg hA hY (fun v' hv ok => ?_) (fun v' hv ok => ?_)
  · obtain ⟨yr, yc, yf, yp, yt, ys, yl, ye, yn⟩ := v'
    obtain ⟨b1, b2, b3, b4⟩ := hv
    have h21 := hA.2.2.1
    refine br_f (by decide) ⟨(rs_sr 16 g).length + 1, rs_yst11 (yt0 := yt) h21 b1 (fun yt' k1 k2 => ?_) _ 0 yt (by omega) (fun _ _ => rfl) (fun j hj => by omega)⟩
    refine K1 _ (And.intro ((pk_un (by decide)).trans b1) ⟨?_, rfl, Or.inr ⟨g, rfl, rfl, ?_, pk_us⟩⟩) ok
    · exact rs_sg_cg _ _ (fun j _ hj => k1 j (by omega)) b2
    · refine rs_sg_sh _ 0 21 (fun j hj => ?_) b2
      rw [k2 j hj, Nat.zero_add]
  · obtain ⟨yr, yc, yf, yp, yt, ys, yl, ye, yn⟩ := v'
    exact br_t rfl (K0 _ hv ok)
theorem rs_Yruns {l : List Nat} {hh : Option rs_T} {s : Int32} {v : SY} {post : Int32 → Prop} (hY : rs_YS l hh s v) (h0 : hh = none → post 0) (h1 : ∀ g, hh = some g → post 1) : wpY_runs post v := by
  obtain ⟨yr, yc, yf, yp, yt, ys, yl, ye, yn⟩ := v
  obtain ⟨b1, b2, b3, b4⟩ := hY
  rcases b4 with ⟨e, rfl⟩ | ⟨h, e, rfl, _⟩
  · exact And.intro narrow_b0 (h0 e)
  · exact And.intro narrow_b1 (h1 h e)
theorem rs_Ysent {l : List Nat} {hh : Option rs_T} {s : Int32} {v : SY} {post : Int32 → Prop} (hY : rs_YS l hh s v) (h0 : hh = none → post (-1)) (h1 : ∀ g, hh = some g → post s) : wpY_sent post v := by
  obtain ⟨yr, yc, yf, yp, yt, ys, yl, ye, yn⟩ := v
  obtain ⟨b1, b2, b3, b4⟩ := hY
  rcases b4 with ⟨e, rfl⟩ | ⟨h, e, rfl, _⟩
  · exact br_t rfl (h0 e)
  · refine br_f (by decide) ?_
    rw [b3]
    exact h1 h e
theorem rs_Ypos {l : List Nat} {hh : Option rs_T} {s : Int32} {v : SY} {post : Int32 → Prop} {x y z : Int32} (hA : rs_A l hh) (hY : rs_YS l hh s v) (h1 : rs_PS hh x y z → post 1) (h0 : ¬ rs_PS hh x y z → post 0) : wpY_possible post v x y z := by
  obtain ⟨yr, yc, yf, yp, yt, ys, yl, ye, yn⟩ := v
  obtain ⟨b1, b2, b3, b4⟩ := hY
  rcases b4 with ⟨rfl, rfl⟩ | ⟨h, rfl, rfl, b5, b6⟩
  · exact br_t rfl (h0 (rs_PS_none _ _ _))
  · obtain ⟨a1, a2, a3⟩ := hA.2.2.2 h rfl
    rcases rs_role x with ⟨R, hR, rfl⟩ | hx
    · rcases rs_role y with ⟨S, hS, rfl⟩ | hy
      · by_cases hRS : R = S
        · subst hRS
          refine br_f (by decide) (rs_yrole1 _ hR (br_f (by decide) (rs_yrole1 _ hS (br_f (by decide) (br_t rfl (h0 ?_))))))
          rintro ⟨_, R', S', L', _, r1, r2, r3, _, e1, e2, _⟩
          rw [nI_eq (by omega) (by omega)] at e1 e2
          omega
        · have hne : ¬ nI R = nI S := by
            rw [nI_eq (by omega) (by omega)]
            exact hRS
          by_cases hz : z < 0
          · refine br_f (by decide) (rs_yrole1 _ hR (br_f (by decide) (rs_yrole1 _ hS (br_f (by decide) (br_f hne (br_t hz (h0 ?_)))))))
            rintro ⟨_, _, _, L, _, _, _, _, hL, _, _, rfl, _⟩
            exact nI_pos (by omega) hz
          · obtain ⟨L, hL, rfl⟩ := nI_of hz
            by_cases hL2 : L < 2
            · exact rs_Yps hR hS hRS hL2 rfl a1 b5 a2 b6 (fun hp => h1 ((rs_PS_iff hR hS hL).mpr ⟨hRS, hL2, hp⟩)) (fun hp => h0 (fun h => hp ((rs_PS_iff hR hS hL).mp h).2.2))
            · exact br_f (by decide) (rs_yrole1 _ hR (br_f (by decide) (rs_yrole1 _ hS (br_f (by decide) (br_f hne (br_f hz (br_f (nI_ge (a := 1) (by omega) hL) (h0 (fun h => hL2 ((rs_PS_iff hR hS hL).mp h).2.1)))))))))
      · refine br_f (by decide) (rs_yrole1 _ hR (br_f (by decide) (rs_yrole0 _ hy (br_t rfl (h0 ?_)))))
        rintro ⟨_, R', S', L, _, _, hS, _, _, _, e, _⟩
        exact hy S' hS e
    · refine br_f (by decide) (rs_yrole0 _ hx (br_t rfl (h0 ?_)))
      rintro ⟨_, R', S', L, _, hR, _, _, _, e, _⟩
      exact hx R' hR e
theorem rs_Ysend0 {l : List Nat} {hh : Option rs_T} {s : Int32} {v : SY} {post : Int32 → SY → Prop} {x y z : Int32} (hA : rs_A l hh) (hY : rs_YS l hh s v) (hn : ¬ rs_PS hh x y z) (hp : post 0 v) : wpY_send post v x y z := by
  obtain ⟨yr, yc, yf, yp, yt, ys, yl, ye, yn⟩ := v
  unfold wpY_send
  exact rs_Ypos hA hY (fun h => absurd h hn) (fun _ => br_t rfl hp)
theorem rs_Ysend1 {l : List Nat} {h : rs_T} {s : Int32} {v : SY} {post : Int32 → SY → Prop} {R S L : Nat} (hR : R < 4) (hS : S < 4) (hRS : R ≠ S) (hL : L < 2) (hps : rs_ps R S L h) (hA : rs_A l (some h)) (hY : rs_YS l (some h) s v) (K : ∀ v', rs_YS l (some (rs_sd R S L h)) (s + 1) v' → post 1 v') : wpY_send post v (nI R) (nI S) (nI L) := by
  obtain ⟨yr, yc, yf, yp, yt, ys, yl, ye, yn⟩ := v
  obtain ⟨b1, b2, b3, b4⟩ := hY
  rcases b4 with ⟨e, _⟩ | ⟨h', e, hr, b5, b6⟩
  · exact nomatch e
  · injection e with e
    subst e
    obtain ⟨a1, a2, a3⟩ := hA.2.2.2 h rfl
    have h21 := hA.2.2.1
    refine rs_Ysd hR hS hRS hL hr a1 b5 a2 b6 hps (fun yt' yn' k1 k2 => K _ (And.intro ((pk_un (by decide)).trans b1) ⟨?_, by rw [b3], Or.inr ⟨_, rfl, hr, k2, pk_us⟩⟩))
    exact rs_sg_cg _ _ (fun j _ hj => k1 j (by omega)) b2
end
section
/-! Y: duty, labels, rest, over, choices, write, rub -/
theorem rs_an_u {hh : Option rs_T} {f : rs_T → Nat} {x y y' : Int32} (h : rs_an hh f x y) (h' : rs_an hh f x y') : y' = y := by
  rcases h with ⟨h, r, e1, e2, e3, e4⟩ | ⟨h1, h2⟩
  · rcases h' with ⟨h', r', f1, f2, f3, f4⟩ | ⟨g1, g2⟩
    · rw [e1] at f1
      injection f1 with f1
      rw [e3, nI_eq (by omega) (by omega)] at f3
      rw [f4, e4, f1, f3]
    · rcases g1 with g1 | g1
      · rw [e1] at g1
        exact nomatch g1
      · exact absurd e3 (g1 r e2)
  · rcases h' with ⟨h', r', f1, f2, f3, f4⟩ | ⟨g1, g2⟩
    · rcases h1 with h1 | h1
      · rw [f1] at h1
        exact nomatch h1
      · exact absurd f3 (h1 r' f2)
    · rw [h2, g2]
theorem rs_Yfirst {l : List Nat} {hh : Option rs_T} {s : Int32} {v : SY} {post : Int32 → SY → Prop} {x : Int32} (hA : rs_A l hh) (hY : rs_YS l hh s v) (Kn : (hh = none ∨ ∀ r, r < 4 → x ≠ nI r) → post (-1) v) (K : ∀ (h : rs_T) (r : Nat) (v' : SY), hh = some h → r < 4 → x = nI r → rs_G h → rs_YS l hh s v' → rs_YL (rs_lr r h) v' → post (nI (rs_hd (rs_lr r h))) v') : wpY_first post v x := by
  obtain ⟨yr, yc, yf, yp, yt, ys, yl, ye, yn⟩ := v
  have hY' := hY
  obtain ⟨b1, b2, b3, b4⟩ := hY'
  have b4' := b4
  rcases b4' with ⟨e, rfl⟩ | ⟨h, e, rfl, b5, b6⟩
  · exact br_t rfl (Kn (Or.inl e))
  · obtain ⟨a1, a2, a3⟩ := hA.2.2.2 h e
    rcases rs_role x with ⟨r, hr, rfl⟩ | hx
    · refine br_f (by decide) (rs_yrole1 _ hr (br_f (by decide) ?_))
      have F : ∀ (f : Nat) (yl' : Nat → Int32), f + (rs_sr 8 (rs_lr r h)).length = 21 → rs_sg yl' f (rs_sr 8 (rs_lr r h)) → vp_in (nI f) 21 ∧ yl' (nI f).toNatClampNeg = nI (rs_hd (rs_lr r h)) := by
        intro f yl' h1 h2
        have := rs_len1 8 (rs_lr r h)
        refine ⟨vp_in_nI (by omega) (by decide), ?_⟩
        rw [nI_clamp (by omega)]
        exact rs_sg_hd h2
      refine rs_Yread (ls := 1) (by decide) hr a1 b5 a2 b6 ?_ ?_
      · intro f p yl' ye' k1 k2 k3
        obtain ⟨f1, f2⟩ := F f yl' k1 k2
        show vp_in (nI f) 21 ∧ post (yl' (nI f).toNatClampNeg) _
        rw [f2]
        exact ⟨f1, K h r _ e hr rfl a1 (And.intro b1 ⟨b2, b3, b4⟩) (Exists.intro f ⟨rfl, k1, k2⟩)⟩
      · intro f p yl' ye' k1 k2 k3
        exact absurd (a3 r hr) k3
    · exact br_f (by decide) (rs_yrole0 _ hx (br_t rfl (Kn (Or.inr hx))))
theorem rs_hd16 {r : Nat} {h : rs_T} (hg : rs_G h) : rs_hd (rs_lr r h) ≤ 16 := by
  have hw := rs_lr_W r h hg
  generalize rs_lr r h = p at hw ⊢
  cases p with
  | leaf u => exact Nat.zero_le _
  | branch v a b => exact hw.2.1
theorem rs_Yduty {l : List Nat} {hh : Option rs_T} {s : Int32} {v : SY} {post : Int32 → SY → Prop} {x : Int32} (hA : rs_A l hh) (hY : rs_YS l hh s v) (K : ∀ (y : Int32) (v' : SY), rs_an hh (fun p => rs_du (rs_hd p)) x y → rs_YS l hh s v' → post y v') : wpY_duty post v x := by
  obtain ⟨yr, yc, yf, yp, yt, ys, yl, ye, yn⟩ := v
  unfold wpY_duty
  refine rs_Yfirst hA hY (fun h => br_t (by decide) (K _ _ (Or.inr ⟨h, rfl⟩) hY)) ?_
  intro h r v' e hr hx hg hv hL
  obtain ⟨yr, yc, yf, yp, yt, ys, yl, ye, yn⟩ := v'
  have h16 := rs_hd16 (r := r) hg
  refine pk_le (rs_hd (rs_lr r h)) 8 (fun h8 => K _ _ (Or.inl ⟨h, r, e, hr, hx, ?_⟩) hv) (fun h8 => K _ _ (Or.inl ⟨h, r, e, hr, hx, ?_⟩) hv)
  · show _ = nI (rs_du (rs_hd (rs_lr r h)))
    unfold rs_du
    rw [if_pos h8]
  · show _ = nI (rs_du (rs_hd (rs_lr r h)))
    unfold rs_du
    rw [if_neg (by omega)]
    exact pk_sub (b := 8) (by omega)
theorem rs_Ylabels {l : List Nat} {hh : Option rs_T} {s : Int32} {v : SY} {post : Int32 → SY → Prop} {x : Int32} (hA : rs_A l hh) (hY : rs_YS l hh s v) (K : ∀ (y : Int32) (v' : SY), rs_an hh (fun p => rs_lb (rs_hd p)) x y → rs_YS l hh s v' → post y v') : wpY_labels post v x := by
  obtain ⟨yr, yc, yf, yp, yt, ys, yl, ye, yn⟩ := v
  unfold wpY_labels
  refine rs_Yfirst hA hY (fun h => br_f (by decide) (K _ _ (Or.inr ⟨h, rfl⟩) hY)) ?_
  intro h r v' e hr hx hg hv hL
  obtain ⟨yr, yc, yf, yp, yt, ys, yl, ye, yn⟩ := v'
  have h16 := rs_hd16 (r := r) hg
  refine pk_lt 0 (rs_hd (rs_lr r h)) (fun h0 => pk_le (rs_hd (rs_lr r h)) 8 (fun h8 => K _ _ (Or.inl ⟨h, r, e, hr, hx, ?_⟩) hv) (fun h8 => K _ _ (Or.inl ⟨h, r, e, hr, hx, ?_⟩) hv)) (fun h0 => K _ _ (Or.inl ⟨h, r, e, hr, hx, ?_⟩) hv)
  · show _ = nI (rs_lb (rs_hd (rs_lr r h)))
    unfold rs_lb
    rw [if_neg (by omega), if_pos h8]
    rfl
  · show _ = nI (rs_lb (rs_hd (rs_lr r h)))
    unfold rs_lb
    rw [if_neg (by omega), if_neg (by omega)]
    rfl
  · show _ = nI (rs_lb (rs_hd (rs_lr r h)))
    unfold rs_lb
    rw [if_pos (by omega)]
    exact congrArg nI (by omega)
theorem rs_Yrest {l : List Nat} {hh : Option rs_T} {s : Int32} {v : SY} {post : Int32 → SY → Prop} {x : Int32} (hA : rs_A l hh) (hY : rs_YS l hh s v) (K : ∀ (y : Int32) (v' : SY), rs_an hh rs_sz x y → rs_YS l hh s v' → post y v') : wpY_rest post v x := by
  obtain ⟨yr, yc, yf, yp, yt, ys, yl, ye, yn⟩ := v
  unfold wpY_rest
  refine rs_Yfirst hA hY (fun h => br_f (by decide) (K _ _ (Or.inr ⟨h, rfl⟩) hY)) ?_
  intro h r v' e hr hx hg hv hL
  obtain ⟨yr, yc, yf, yp, yt, ys, yl, ye, yn⟩ := v'
  have h16 := rs_hd16 (r := r) hg
  exact br_t (nI_pos' (by omega)) (rs_YL_mea (rs_lr_W r h hg) hL (K _ _ (Or.inl ⟨h, r, e, hr, hx, rfl⟩) hv))
theorem rs_Yd1 {l : List Nat} {h : rs_T} {s : Int32} {v : SY} {post : Int32 → SY → Prop} {x : Nat} (hx : x < 4) (hA : rs_A l (some h)) (hY : rs_YS l (some h) s v) (K0 : ∀ v', rs_YS l (some h) s v' → rs_hd (rs_lr x h) = 0 → post 0 v') (K1 : ∀ (y : Int32) (v' : SY), rs_YS l (some h) s v' → rs_hd (rs_lr x h) ≠ 0 → ¬ y = 0 → post y v') : wpY_duty post v (nI x) := by
  refine rs_Yduty hA hY (fun y v' hy hv => ?_)
  have hg := (hA.2.2.2 h rfl).1
  have h16 := rs_hd16 (r := x) hg
  have e := rs_an_u hy (Or.inl ⟨h, x, rfl, hx, rfl, rfl⟩)
  subst e
  by_cases z : rs_hd (rs_lr x h) = 0
  · have := K0 v' hv z
    show post (nI (rs_du (rs_hd (rs_lr x h)))) v'
    rw [z]
    exact this
  · have hd := rs_du_in (v := rs_hd (rs_lr x h)) (by omega) h16
    exact K1 (nI (rs_du (rs_hd (rs_lr x h)))) v' hv z (nI_ne0 hd.1 (Nat.lt_of_le_of_lt hd.2 (by decide)))
theorem rs_Yover {l : List Nat} {hh : Option rs_T} {s : Int32} {v : SY} {post : Int32 → SY → Prop} (hA : rs_A l hh) (hY : rs_YS l hh s v) (hn : hh = none → post 0 v) (h1 : ∀ h v', hh = some h → rs_YS l hh s v' → rs_ov h → post 1 v') (h0 : ∀ h v', hh = some h → rs_YS l hh s v' → ¬ rs_ov h → post 0 v') : wpY_over post v := by
  obtain ⟨yr, yc, yf, yp, yt, ys, yl, ye, yn⟩ := v
  have hY' := hY
  obtain ⟨b1, b2, b3, b4⟩ := hY'
  rcases b4 with ⟨e, rfl⟩ | ⟨h, rfl, rfl, b5, b6⟩
  · exact br_t rfl (hn e)
  · refine br_f (by decide) ?_
    refine rs_Yd1 (x := 0) (by decide) hA hY (fun v' hv z0 => ?_) (fun y v' hv z hy => ?_)
    · obtain ⟨yr, yc, yf, yp, yt, ys, yl, ye, yn⟩ := v'
      refine br_t rfl (rs_Yd1 (x := 1) (by decide) hA hv (fun v' hv z1 => ?_) (fun y v' hv z hy => ?_))
      · obtain ⟨yr, yc, yf, yp, yt, ys, yl, ye, yn⟩ := v'
        refine br_t rfl (rs_Yd1 (x := 2) (by decide) hA hv (fun v' hv z2 => ?_) (fun y v' hv z hy => ?_))
        · obtain ⟨yr, yc, yf, yp, yt, ys, yl, ye, yn⟩ := v'
          refine br_t rfl (rs_Yd1 (x := 3) (by decide) hA hv (fun v' hv z3 => ?_) (fun y v' hv z hy => ?_))
          · obtain ⟨yr, yc, yf, yp, yt, ys, yl, ye, yn⟩ := v'
            refine br_t rfl (h1 h _ rfl hv (fun x hx => ?_))
            rcases (show x = 0 ∨ x = 1 ∨ x = 2 ∨ x = 3 by omega) with e | e | e | e
            · rw [e]; exact z0
            · rw [e]; exact z1
            · rw [e]; exact z2
            · rw [e]; exact z3
          · obtain ⟨yr, yc, yf, yp, yt, ys, yl, ye, yn⟩ := v'
            exact br_f hy (h0 h _ rfl hv (fun ho => z (ho 3 (by decide))))
        · obtain ⟨yr, yc, yf, yp, yt, ys, yl, ye, yn⟩ := v'
          exact br_f hy (h0 h _ rfl hv (fun ho => z (ho 2 (by decide))))
      · obtain ⟨yr, yc, yf, yp, yt, ys, yl, ye, yn⟩ := v'
        exact br_f hy (h0 h _ rfl hv (fun ho => z (ho 1 (by decide))))
    · obtain ⟨yr, yc, yf, yp, yt, ys, yl, ye, yn⟩ := v'
      exact br_f hy (h0 h _ rfl hv (fun ho => z (ho 0 (by decide))))
theorem rs_tabC : ∀ k, k < 32 → nI k >>> ((3 : Int32) &&& 31) = nI (k / 8) ∧ (nI k >>> ((1 : Int32) &&& 31)) &&& 3 = nI (k / 2 % 4) ∧ nI k &&& 1 = nI (k % 2) := by decide +kernel
section
variable {yr yc yf yp : Int32} {yt ys yl ye yn : Nat → Int32}
theorem rs_ych4 {l : List Nat} {hh : Option rs_T} {s : Int32} {post : Int32 → Prop} (hA : rs_A l hh) (hY : rs_YS l hh s (yr, yc, yf, yp, yt, ys, yl, ye, yn)) (K : post (nI (rs_cc hh 32))) : ∀ m k : Nat, k + m = 32 → wY_choices_4 post yr yc yf yp yt ys yl ye yn (m + 1) (nI (rs_cc hh k)) (nI k) := by
  intro m
  induction m with
  | zero =>
    intro k hk
    have e : k = 32 := by omega
    subst e
    exact br_t (nI_le (Nat.le_refl 32) (by decide)) K
  | succ m ih =>
    intro k hk
    obtain ⟨e1, e2, e3⟩ := rs_tabC k (by omega)
    have hc : rs_cc hh (k + 1) = rs_cc hh k + rs_b01 (rs_PS hh (nI (k / 8)) (nI (k / 2 % 4)) (nI (k % 2))) := rfl
    have ih' := ih (k + 1) (by omega)
    refine br_f (nI_ge (b := 32) (by omega) (by decide)) ?_
    rw [e1, e2, e3]
    refine rs_Ypos hA hY (fun hp => ?_) (fun hp => ?_)
    · rw [hc, rs_b1 hp] at ih'
      exact br_f (by decide) (nm_r (nI_1 _) (nm_r (nI_1 k) ih'))
    · rw [hc, rs_b0 hp] at ih'
      exact br_t rfl (nm_r (nI_1 k) ih')
end
theorem rs_Ychoices {l : List Nat} {hh : Option rs_T} {s : Int32} {v : SY} {post : Int32 → Prop} (hA : rs_A l hh) (hY : rs_YS l hh s v) (K : post (nI (rs_cc hh 32))) : wpY_choices post v := by
  obtain ⟨yr, yc, yf, yp, yt, ys, yl, ye, yn⟩ := v
  exact Exists.intro (32 + 1) (rs_ych4 hA hY K 32 0 rfl)
theorem rs_Ywr0 {x : Int32} {v : SY} {post : Int32 → SY → Prop} (hx : ∀ t, rs_tok t → x ≠ nI t) (hp : post (-1) v) : wpY_write post v x := by
  obtain ⟨yr, yc, yf, yp, yt, ys, yl, ye, yn⟩ := v
  rcases pk_ix x (n := 33) (by decide) with h1 | h1 | ⟨j, hj, e⟩
  · exact br_t h1 hp
  · obtain ⟨j, hj, hj2, rfl⟩ := rs_big (by decide) h1
    exact br_f (nI_pos hj2) (br_t (nI_lt (a := 32) (by omega) hj2) hp)
  · subst e
    have hn : ¬ rs_tok j := fun h => hx j h rfl
    have h0 : 0 < j ∧ rs_s j = rs_r j := by
      by_cases h0 : 0 < j
      · by_cases e : rs_s j = rs_r j
        · exact ⟨h0, e⟩
        · exact absurd ⟨by omega, fun _ => e⟩ hn
      · exact absurd ⟨by omega, fun h => absurd h h0⟩ hn
    refine br_f (nI_pos (by omega)) (br_f (nI_nlt (a := 32) (by omega) (by decide)) (br_f (nI_nle h0.1 (by omega)) ?_))
    refine rs_ysnd _ h0.1 (by omega) (rs_yrcv _ h0.1 (by omega) (br_t (by rw [h0.2]) hp))
theorem rs_Ywr {l : List Nat} {hh : Option rs_T} {s : Int32} {v : SY} {post : Int32 → SY → Prop} {t : Nat} (ht : rs_tok t) (hA : rs_A l hh) (hY : rs_YS l hh s v) (h2 : (rs_nd 1 l = 0 ∨ 21 ≤ l.length) → post (-2) v) (K : rs_nd 1 l ≠ 0 → l.length < 21 → ∀ v', rs_YS (l ++ [t]) none s v' → post (nI (l.length + 1)) v') : wpY_write post v (nI t) := by
  obtain ⟨yr, yc, yf, yp, yt, ys, yl, ye, yn⟩ := v
  have hY' := hY
  obtain ⟨b1, b2, b3, b4⟩ := hY'
  have hl := hA.2.2.1
  have t32 := ht.1
  have hs4 := rs_s4 t
  have hr4 := rs_r4 t
  have W : wY_write_29 post (nI t) yr yc yf yp yt ys yl ye yn := by
    unfold wY_write_29
    refine rs_Ycomp hA hY (fun hn => br_f (by decide) (h2 (Or.inl hn))) (fun hn => br_t rfl ?_)
    refine pk_lt l.length 21 (fun h21 => ⟨?_, nm_r (e' := upd yt l.length (nI t)) ?_ (nm_r (e' := upd ys 0 (nI (l.length + 1))) ?_ ?_)⟩) (fun h21 => h2 (Or.inr h21)) b1
    · rw [b1]; exact vp_in_nI (by omega) (by decide)
    · rw [b1, nI_clamp (by omega)]
    · rw [b1, nI_1]
    · rw [pk_us]
      refine K hn h21 _ (And.intro ?_ ⟨?_, b3, Or.inl ⟨rfl, rfl⟩⟩)
      · rw [pk_us, List.length_append]; rfl
      · refine (rs_sg_app _ _ _ _).mpr ⟨rs_sg_cg l 0 (fun j _ hj => pk_un (by omega)) b2, And.intro ?_ trivial⟩
        rw [Nat.zero_add]
        exact pk_us
  refine br_f (nI_pos (by omega)) (br_f (nI_nlt (a := 32) (by omega) (by decide)) (pk_le t 0 (fun _ => W) (fun h0 => ?_)))
  exact rs_ysnd _ h0 t32 (rs_yrcv _ h0 t32 (pk_eq (rs_s t) (rs_r t) (fun e => absurd e (ht.2 h0)) (fun _ => W)))
theorem rs_Yrub0 {hh : Option rs_T} {s : Int32} {v : SY} {post : Int32 → SY → Prop} (hY : rs_YS [] hh s v) (hp : post (-1) v) : wpY_rub post v := by
  obtain ⟨yr, yc, yf, yp, yt, ys, yl, ye, yn⟩ := v
  obtain ⟨b1, b2, b3, b4⟩ := hY
  exact br_t b1 hp
theorem rs_Yrub {l : List Nat} {t : Nat} {hh : Option rs_T} {s : Int32} {v : SY} {post : Int32 → SY → Prop} (hA : rs_A (l ++ [t]) hh) (hY : rs_YS (l ++ [t]) hh s v) (K : ∀ v', rs_YS l none s v' → post (nI t) v') : wpY_rub post v := by
  obtain ⟨yr, yc, yf, yp, yt, ys, yl, ye, yn⟩ := v
  obtain ⟨b1, b2, b3, b4⟩ := hY
  have hl := hA.2.2.1
  rw [List.length_append] at hl b1
  have hl' : l.length + 1 ≤ 21 := hl
  have b1' : ys 0 = nI (l.length + 1) := b1
  obtain ⟨s1, s2⟩ := (rs_sg_app yt l [t] 0).mp b2
  have s3 : yt (0 + l.length) = nI t := s2.1
  rw [Nat.zero_add] at s3
  refine br_f (by rw [b1']; exact nI_ne0 (by omega) (by omega)) (nm_r (e' := upd ys 0 (nI l.length)) (by rw [b1', nI_pred]) ?_)
  rw [pk_us, nI_clamp (by omega), s3]
  exact ⟨vp_in_nI (by omega) (by decide), K _ (And.intro pk_us ⟨s1, b3, Or.inl ⟨rfl, rfl⟩⟩)⟩
end
section
/-! what is owed -/
def i_Rel (k : Nat) (u : SX) (v : SY) : Prop := ∃ (l : List Nat) (hh : Option rs_T) (s : Int32), rs_A l hh ∧ rs_XS l hh s u ∧ rs_YS l hh s v
theorem i_up {k : Nat} {u : SX} {v : SY} (h : i_Rel k u v) : i_Rel (k + 4) u v := h
theorem i_vc0 : wpX_init (fun u => wpY_init (fun v => i_Rel 0 u v)) :=
  Exists.intro [] ⟨none, 0, ⟨(fun t ht => nomatch ht), trivial, by decide, (fun h e => nomatch e)⟩, Or.inl ⟨rfl, And.intro rfl ⟨trivial, rfl, rfl, rfl, rfl⟩⟩, And.intro rfl ⟨trivial, rfl, Or.inl ⟨rfl, rfl⟩⟩⟩
theorem rs_A_none {l : List Nat} {hh : Option rs_T} (h : rs_A l hh) : rs_A l none := ⟨h.1, h.2.1, h.2.2.1, (fun _ e => nomatch e)⟩
theorem i_vc_write {k : Nat} {u : SX} {v : SY} (I : i_Rel k u v) (hk : k + 4 ≤ 2048) (v1 : Int32) : wpX_write (fun r u' => wpY_write (fun r' v' => r' = r ∧ i_Rel (k + 4) u' v') v v1) u v1 := by
  obtain ⟨l, hh, s, hA, hX, hY⟩ := I
  by_cases h : ∃ t, rs_tok t ∧ v1 = nI t
  · obtain ⟨t, ht, rfl⟩ := h
    refine rs_Xwr ht hA hX (fun h2 => ?_) (fun hn h21 u' hu => ?_)
    · refine rs_Ywr ht hA hY (fun _ => ⟨rfl, l, hh, s, hA, hX, hY⟩) (fun hn h21 => ?_)
      rcases h2 with h2 | h2
      · exact absurd h2 hn
      · omega
    · refine rs_Ywr ht hA hY (fun h2 => ?_) (fun _ _ v' hv => ⟨rfl, l ++ [t], none, s, ⟨?_, ?_, ?_, (fun _ e => nomatch e)⟩, hu, hv⟩)
      · rcases h2 with h2 | h2
        · exact absurd h2 hn
        · omega
      · intro e he
        rcases List.mem_append.mp he with h | h
        · exact hA.1 e h
        · rw [List.mem_singleton.mp h]
          exact ht
      · exact (rs_vd_app l [t] 1).mpr ⟨hA.2.1, And.intro (by omega) trivial⟩
      · rw [List.length_append]
        exact h21
  · have hx : ∀ t, rs_tok t → v1 ≠ nI t := fun t ht e => h ⟨t, ht, e⟩
    exact rs_Xwr0 hx (rs_Ywr0 hx ⟨rfl, l, hh, s, hA, hX, hY⟩)
theorem i_vc_rub {k : Nat} {u : SX} {v : SY} (I : i_Rel k u v) (hk : k + 4 ≤ 2048) : wpX_rub (fun r u' => wpY_rub (fun r' v' => r' = r ∧ i_Rel (k + 4) u' v') v) u := by
  obtain ⟨l, hh, s, hA, hX, hY⟩ := I
  rcases List.eq_nil_or_concat l with rfl | ⟨l', t, rfl⟩
  · exact rs_Xrub0 hX (rs_Yrub0 hY ⟨rfl, [], hh, s, hA, hX, hY⟩)
  · rw [List.concat_eq_append] at hA hX hY
    refine rs_Xrub hA hX (fun u' hu => rs_Yrub hA hY (fun v' hv => ⟨rfl, l', none, s, ⟨fun e he => hA.1 e (List.mem_append.mpr (Or.inl he)), ((rs_vd_app l' [t] 1).mp hA.2.1).1, ?_, (fun _ e => nomatch e)⟩, hu, hv⟩))
    have := hA.2.2.1
    rw [List.length_append] at this
    have : l'.length + 1 ≤ 21 := this
    omega
theorem i_vc_complete {k : Nat} {u : SX} {v : SY} (I : i_Rel k u v) (hk : k + 4 ≤ 2048) : wpX_complete (fun r => wpY_complete (fun r' => r' = r ∧ i_Rel (k + 4) u v) v) u := by
  obtain ⟨l, hh, s, hA, hX, hY⟩ := I
  have I' : i_Rel (k + 4) u v := ⟨l, hh, s, hA, hX, hY⟩
  exact rs_Xcomp hA hX (fun h => rs_Ycomp hA hY (fun _ => ⟨rfl, I'⟩) (fun h' => absurd h h')) (fun h => rs_Ycomp hA hY (fun h' => absurd h' h) (fun _ => ⟨rfl, I'⟩))
theorem i_vc_fixed {k : Nat} {u : SX} {v : SY} (I : i_Rel k u v) (hk : k + 4 ≤ 2048) (v1 : Int32) : wpX_fixed (fun r u' => wpY_fixed (fun r' v' => r' = r ∧ i_Rel (k + 4) u' v') v v1) u v1 := by
  obtain ⟨l, hh, s, hA, hX, hY⟩ := I
  rcases rs_role v1 with ⟨x, hx, rfl⟩ | hx
  · by_cases hn : rs_nd 1 l = 0
    · obtain ⟨g, hg, rfl⟩ := rs_parse1 hA.2.1 hn hA.1
      refine rs_Xfix hx hg hA hX (fun u' hu ok => ?_) (fun u' hu ok => ?_)
      · exact rs_Yfix hx hg hA hY (fun v' hv _ _ => ⟨rfl, _, hh, s, hA, rs_XS_K hg hu, hv⟩) (fun v' hv no => absurd ok no)
      · exact rs_Yfix hx hg hA hY (fun v' hv _ yes => absurd yes ok) (fun v' hv _ => ⟨rfl, _, hh, s, hA, rs_XS_K hg hu, hv⟩)
    · exact rs_XfixN hx hA hX hn (rs_YfixN hx hA hY hn ⟨rfl, l, hh, s, hA, hX, hY⟩)
  · exact rs_Xfix0 hx (rs_Yfix0 hx ⟨rfl, l, hh, s, hA, hX, hY⟩)
theorem i_vc_fit {k : Nat} {u : SX} {v : SY} (I : i_Rel k u v) (hk : k + 4 ≤ 2048) : wpX_fit (fun r u' => wpY_fit (fun r' v' => r' = r ∧ i_Rel (k + 4) u' v') v) u := by
  obtain ⟨l, hh, s, hA, hX, hY⟩ := I
  by_cases hn : rs_nd 1 l = 0
  · obtain ⟨g, hg, rfl⟩ := rs_parse1 hA.2.1 hn hA.1
    refine rs_Xfit hg hA hX (fun u' hu ok => ?_) (fun u' hu ok => ?_)
    · exact rs_Yfit hg hA hY (fun v' hv _ => ⟨rfl, _, hh, s, hA, rs_XS_K hg hu, hv⟩) (fun v' hv no => absurd ok no)
    · exact rs_Yfit hg hA hY (fun v' hv yes => absurd yes ok) (fun v' hv _ => ⟨rfl, _, hh, s, hA, rs_XS_K hg hu, hv⟩)
  · exact rs_XfitN hA hX hn (rs_YfitN hA hY hn ⟨rfl, l, hh, s, hA, hX, hY⟩)
theorem i_vc_size {k : Nat} {u : SX} {v : SY} (I : i_Rel k u v) (hk : k + 4 ≤ 2048) (v1 : Int32) : wpX_size (fun r u' => wpY_size (fun r' v' => r' = r ∧ i_Rel (k + 4) u' v') v v1) u v1 := by
  obtain ⟨l, hh, s, hA, hX, hY⟩ := I
  rcases rs_role v1 with ⟨x, hx, rfl⟩ | hx
  · by_cases hn : rs_nd 1 l = 0
    · obtain ⟨g, hg, rfl⟩ := rs_parse1 hA.2.1 hn hA.1
      refine rs_Xsize hx hg hA hX (fun u' hu ok => ?_) (fun u' hu ok => ?_)
      · exact rs_Ysize hx hg hA hY (fun v' hv _ => ⟨rfl, _, hh, s, hA, rs_XS_K hg hu, hv⟩) (fun v' hv no => absurd ok no)
      · exact rs_Ysize hx hg hA hY (fun v' hv yes => absurd yes ok) (fun v' hv _ => ⟨rfl, _, hh, s, hA, rs_XS_K hg hu, hv⟩)
    · exact rs_XsizeN hx hA hX hn (rs_YsizeN hx hA hY hn ⟨rfl, l, hh, s, hA, hX, hY⟩)
  · exact rs_Xsize0 hx (rs_Ysize0 hx ⟨rfl, l, hh, s, hA, hX, hY⟩)
theorem i_vc_start {k : Nat} {u : SX} {v : SY} (I : i_Rel k u v) (hk : k + 4 ≤ 2048) : wpX_start (fun r u' => wpY_start (fun r' v' => r' = r ∧ i_Rel (k + 4) u' v') v) u := by
  obtain ⟨l, hh, s, hA, hX, hY⟩ := I
  by_cases hn : rs_nd 1 l = 0
  · obtain ⟨g, hg, rfl⟩ := rs_parse1 hA.2.1 hn hA.1
    refine rs_Xstart hg hA hX (fun u' hu ok => ?_) (fun u' hu ok => ?_)
    · refine rs_Ystart hg hA hY (fun v' hv _ => ⟨rfl, _, some g, 0, ⟨hA.1, hA.2.1, hA.2.2.1, fun h e => ?_⟩, rs_XS_K hg hu, hv⟩) (fun v' hv no => absurd ok no)
      injection e with e
      subst e
      exact ⟨hg, hA.2.2.1, ok⟩
    · exact rs_Ystart hg hA hY (fun v' hv yes => absurd yes ok) (fun v' hv _ => ⟨rfl, _, hh, s, hA, rs_XS_K hg hu, hv⟩)
  · exact rs_XstartN hA hX hn (rs_YstartN hA hY hn ⟨rfl, l, hh, s, hA, hX, hY⟩)
theorem i_vc_runs {k : Nat} {u : SX} {v : SY} (I : i_Rel k u v) (hk : k + 4 ≤ 2048) : wpX_runs (fun r => wpY_runs (fun r' => r' = r ∧ i_Rel (k + 4) u v) v) u := by
  obtain ⟨l, hh, s, hA, hX, hY⟩ := I
  have I' : i_Rel (k + 4) u v := ⟨l, hh, s, hA, hX, hY⟩
  refine rs_Xruns hX (fun e => rs_Yruns hY (fun _ => ⟨rfl, I'⟩) (fun g e' => ?_)) (fun g e => rs_Yruns hY (fun e' => ?_) (fun _ _ => ⟨rfl, I'⟩))
  · rw [e] at e'
    exact nomatch e'
  · rw [e] at e'
    exact nomatch e'
theorem i_vc_possible {k : Nat} {u : SX} {v : SY} (I : i_Rel k u v) (hk : k + 4 ≤ 2048) (v1 : Int32) (v2 : Int32) (v3 : Int32) : wpX_possible (fun r => wpY_possible (fun r' => r' = r ∧ i_Rel (k + 4) u v) v v1 v2 v3) u v1 v2 v3 := by
  obtain ⟨l, hh, s, hA, hX, hY⟩ := I
  have I' : i_Rel (k + 4) u v := ⟨l, hh, s, hA, hX, hY⟩
  exact rs_Xpos hA hX (fun h => rs_Ypos hA hY (fun _ => ⟨rfl, I'⟩) (fun h' => absurd h h')) (fun h => rs_Ypos hA hY (fun h' => absurd h' h) (fun _ => ⟨rfl, I'⟩))
theorem i_vc_send {k : Nat} {u : SX} {v : SY} (I : i_Rel k u v) (hk : k + 4 ≤ 2048) (v1 : Int32) (v2 : Int32) (v3 : Int32) : wpX_send (fun r u' => wpY_send (fun r' v' => r' = r ∧ i_Rel (k + 4) u' v') v v1 v2 v3) u v1 v2 v3 := by
  obtain ⟨l, hh, s, hA, hX, hY⟩ := I
  by_cases hp : rs_PS hh v1 v2 v3
  · obtain ⟨h, R, S, L, rfl, hR, hS, hRS, hL, rfl, rfl, rfl, hps⟩ := hp
    obtain ⟨a1, a2, a3⟩ := hA.2.2.2 h rfl
    refine rs_Xsend1 hR hS hRS hL hps hA hX (fun u' hu => rs_Ysend1 hR hS hRS hL hps hA hY (fun v' hv => ⟨rfl, l, _, s + 1, ⟨hA.1, hA.2.1, hA.2.2.1, fun h' e => ?_⟩, hu, hv⟩))
    injection e with e
    subst e
    have hl := rs_sd_len R S L h a1 hps
    exact ⟨rs_sd_G R S L h a1, by omega, fun x hx => (rs_sd_lr x h a1 hps (a3 x hx)).1⟩
  · exact rs_Xsend0 hA hX hp (rs_Ysend0 hA hY hp ⟨rfl, l, hh, s, hA, hX, hY⟩)
theorem i_vc_duty {k : Nat} {u : SX} {v : SY} (I : i_Rel k u v) (hk : k + 4 ≤ 2048) (v1 : Int32) : wpX_duty (fun r => wpY_duty (fun r' v' => r' = r ∧ i_Rel (k + 4) u v') v v1) u v1 := by
  obtain ⟨l, hh, s, hA, hX, hY⟩ := I
  exact rs_Xduty hX (fun y hy => rs_Yduty hA hY (fun y' v' hy' hv => ⟨rs_an_u hy hy', l, hh, s, hA, hX, hv⟩))
theorem i_vc_labels {k : Nat} {u : SX} {v : SY} (I : i_Rel k u v) (hk : k + 4 ≤ 2048) (v1 : Int32) : wpX_labels (fun r => wpY_labels (fun r' v' => r' = r ∧ i_Rel (k + 4) u v') v v1) u v1 := by
  obtain ⟨l, hh, s, hA, hX, hY⟩ := I
  exact rs_Xlabels hX (fun y hy => rs_Ylabels hA hY (fun y' v' hy' hv => ⟨rs_an_u hy hy', l, hh, s, hA, hX, hv⟩))
theorem i_vc_rest {k : Nat} {u : SX} {v : SY} (I : i_Rel k u v) (hk : k + 4 ≤ 2048) (v1 : Int32) : wpX_rest (fun r => wpY_rest (fun r' v' => r' = r ∧ i_Rel (k + 4) u v') v v1) u v1 := by
  obtain ⟨l, hh, s, hA, hX, hY⟩ := I
  exact rs_Xrest hX (fun y hy => rs_Yrest hA hY (fun y' v' hy' hv => ⟨rs_an_u hy hy', l, hh, s, hA, hX, hv⟩))
theorem i_vc_choices {k : Nat} {u : SX} {v : SY} (I : i_Rel k u v) (hk : k + 4 ≤ 2048) : wpX_choices (fun r => wpY_choices (fun r' => r' = r ∧ i_Rel (k + 4) u v) v) u := by
  obtain ⟨l, hh, s, hA, hX, hY⟩ := I
  exact rs_Xchoices hA hX (rs_Ychoices hA hY ⟨rfl, l, hh, s, hA, hX, hY⟩)
theorem i_vc_sent {k : Nat} {u : SX} {v : SY} (I : i_Rel k u v) (hk : k + 4 ≤ 2048) : wpX_sent (fun r => wpY_sent (fun r' => r' = r ∧ i_Rel (k + 4) u v) v) u := by
  obtain ⟨l, hh, s, hA, hX, hY⟩ := I
  have I' : i_Rel (k + 4) u v := ⟨l, hh, s, hA, hX, hY⟩
  refine rs_Xsent hX (fun e => rs_Ysent hY (fun _ => ⟨rfl, I'⟩) (fun g e' => ?_)) (fun g e => rs_Ysent hY (fun e' => ?_) (fun _ _ => ⟨rfl, I'⟩))
  · rw [e] at e'
    exact nomatch e'
  · rw [e] at e'
    exact nomatch e'
theorem i_vc_over {k : Nat} {u : SX} {v : SY} (I : i_Rel k u v) (hk : k + 4 ≤ 2048) : wpX_over (fun r => wpY_over (fun r' v' => r' = r ∧ i_Rel (k + 4) u v') v) u := by
  obtain ⟨l, hh, s, hA, hX, hY⟩ := I
  refine rs_Xover hX (fun e => ?_) (fun h e ho => ?_) (fun h e ho => ?_)
  · refine rs_Yover hA hY (fun _ => ⟨rfl, l, hh, s, hA, hX, hY⟩) (fun h v' e' _ _ => ?_) (fun h v' e' _ _ => ?_)
    · rw [e] at e'
      exact nomatch e'
    · rw [e] at e'
      exact nomatch e'
  · subst e
    refine rs_Yover hA hY (fun e' => nomatch e') (fun h v' e' hv _ => ⟨rfl, l, _, s, hA, hX, hv⟩) (fun h' v' e' hv hn => ?_)
    injection e' with e'
    subst e'
    exact absurd ho hn
  · subst e
    refine rs_Yover hA hY (fun e' => nomatch e') (fun h' v' e' hv hn => ?_) (fun h' v' e' hv _ => ⟨rfl, l, _, s, hA, hX, hv⟩)
    injection e' with e'
    subst e'
    exact absurd hn ho
end
