section
theorem pk_us {f : Nat → Int32} {k : Nat} {x : Int32} : upd f k x k = x := if_pos rfl
theorem pk_un {f : Nat → Int32} {k j : Nat} {x : Int32} (h : j ≠ k) : upd f k x j = f j := if_neg h
theorem pk_sub {a b : Nat} (h : b ≤ a) : nI a - nI b = nI (a - b) := by
  obtain ⟨c, rfl⟩ : ∃ c, a = c + b := ⟨a - b, by omega⟩
  rw [← nI_add, Int32.add_sub_cancel, Nat.add_sub_cancel]
theorem pk_m1 (n : Nat) : nI (n + 1) + (-1) = nI n := by
  rw [← nI_1, Int32.add_assoc, show (1 : Int32) + (-1) = 0 from rfl, Int32.add_zero]
theorem pk_mul (a b : Nat) : nI a * nI b = nI (a * b) := (Int32.ofNat_mul a b).symm
theorem pk_sub_toInt {a b : Nat} (ha : a < 2 ^ 30) (hb : b < 2 ^ 30) : (nI a - nI b).toInt = (a : Int) - b := by
  rw [Int32.toInt_sub, nI_toInt (by omega), nI_toInt (by omega)]
  exact Int.bmod_eq_of_le (by omega) (by omega)
theorem pk_sneg {a b : Nat} (hb : b < 2 ^ 30) (h : a < b) : nI a - nI b < 0 := by
  rw [Int32.lt_iff_toInt_lt, pk_sub_toInt (by omega) hb, show (0 : Int32).toInt = 0 from by decide]
  omega
theorem pk_ix (x : Int32) {n : Nat} (hn : n < 2 ^ 31) : x < 0 ∨ nI n ≤ x ∨ ∃ j : Nat, j < n ∧ x = nI j := by
  by_cases h : x < 0
  · exact Or.inl h
  · obtain ⟨j, hj, rfl⟩ := nI_of h
    by_cases h2 : j < n
    · exact Or.inr (Or.inr ⟨j, h2, rfl⟩)
    · exact Or.inr (Or.inl (nI_le (by omega) hj))
theorem pk_le {x y : Int32} {A B : Prop} (a b : Nat) (f : a ≤ b → A) (g : b < a → B) (hx : x = nI a := by rfl) (hy : y = nI b := by rfl) (ha : a < 2 ^ 31 := by omega) (hb : b < 2 ^ 31 := by omega) : (x ≤ y → A) ∧ (¬ x ≤ y → B) := by
  subst hx hy
  rw [nI_leI ha hb]
  exact ⟨f, fun z => g (by omega)⟩
theorem pk_lt {x y : Int32} {A B : Prop} (a b : Nat) (f : a < b → A) (g : b ≤ a → B) (hx : x = nI a := by rfl) (hy : y = nI b := by rfl) (ha : a < 2 ^ 31 := by omega) (hb : b < 2 ^ 31 := by omega) : (x < y → A) ∧ (¬ x < y → B) := by
  subst hx hy
  rw [nI_ltI ha hb]
  exact ⟨f, fun z => g (by omega)⟩
theorem pk_eq {x y : Int32} {A B : Prop} (a b : Nat) (f : a = b → A) (g : a ≠ b → B) (hx : x = nI a := by rfl) (hy : y = nI b := by rfl) (ha : a < 2 ^ 31 := by omega) (hb : b < 2 ^ 31 := by omega) : (x = y → A) ∧ (¬ x = y → B) := by
  subst hx hy
  rw [nI_eq ha hb]
  exact ⟨f, g⟩
theorem pk_in {x : Int32} (n N : Nat) (h : n < N) (hx : x = nI n := by rfl) (hN : N < 2 ^ 31 := by omega) : vp_in x N := by
  subst hx
  exact vp_in_nI h hN
theorem pk_cl {x : Int32} (n : Nat) (hx : x = nI n := by rfl) (h : n < 2 ^ 31 := by omega) : x.toNatClampNeg = n := by
  subst hx
  exact nI_clamp h
theorem pk_tn {n : Nat} (h : n < 2 ^ 32) : (nI n).toBitVec.toNat = n := Nat.mod_eq_of_lt h
theorem pk_and (x : Int32) {m : Int32} (k : Nat) (hm : m.toBitVec.toNat = 2 ^ k - 1) : x &&& m = nI (x.toBitVec.toNat % 2 ^ k) := by
  apply Int32.toBitVec_inj.mp
  apply BitVec.eq_of_toNat_eq
  rw [Int32.toBitVec_and, BitVec.toNat_and, hm, Nat.and_two_pow_sub_one_eq_mod]
  show _ = (BitVec.ofNat 32 _).toNat
  rw [BitVec.toNat_ofNat]
  exact (Nat.mod_eq_of_lt (Nat.lt_of_le_of_lt (Nat.mod_le _ _) x.toBitVec.isLt)).symm
theorem pk_andN {n : Nat} (h : n < 2 ^ 32) {m : Int32} (k : Nat) (hm : m.toBitVec.toNat = 2 ^ k - 1) : nI n &&& m = nI (n % 2 ^ k) := by
  rw [pk_and _ k hm, pk_tn h]
theorem pk_shl (a s : Int32) (k : Nat) (hs : (s.toBitVec.smod 32).toNat = k) : (a <<< s).toBitVec.toNat = a.toBitVec.toNat * 2 ^ k % 2 ^ 32 := by
  show (a.toBitVec <<< (s.toBitVec.smod 32).toNat).toNat = _
  rw [hs, BitVec.toNat_shiftLeft, Nat.shiftLeft_eq]
theorem pk_shlN {n : Nat} (s : Int32) (k : Nat) (hs : (s.toBitVec.smod 32).toNat = k) (h : n * 2 ^ k < 2 ^ 32) : nI n <<< s = nI (n * 2 ^ k) := by
  apply Int32.toBitVec_inj.mp
  apply BitVec.eq_of_toNat_eq
  have hn : n < 2 ^ 32 := Nat.lt_of_le_of_lt (Nat.le_mul_of_pos_right n (Nat.two_pow_pos k)) h
  rw [pk_shl _ _ k hs, pk_tn hn, pk_tn h, Nat.mod_eq_of_lt h]
theorem pk_shr (a s : Int32) (k : Nat) (hs : (s.toBitVec.smod 32).toNat = k) : (a >>> s).toInt = a.toInt >>> k := by
  show (a.toBitVec.sshiftRight (s.toBitVec.smod 32).toNat).toInt = _
  rw [hs, BitVec.toInt_sshiftRight]
  rfl
theorem pk_shrN {n : Nat} (h : n < 2 ^ 31) (s : Int32) (k : Nat) (hs : (s.toBitVec.smod 32).toNat = k) : nI n >>> s = nI (n / 2 ^ k) := by
  apply Int32.toInt_inj.mp
  have h2 : n / 2 ^ k ≤ n := Nat.div_le_self _ _
  rw [pk_shr _ _ k hs, nI_toInt h, nI_toInt (by omega), Int.shiftRight_eq_div_pow]
  rfl
theorem pk_vb (z : Int32) : vp_nar .byte z.toInt8.toInt32 = z.toInt8.toInt32 := by rw [vp_nar_byte]; simp
theorem s_l : ∀ n, n < 32 → ((nI n &&& 31).toBitVec.smod 32).toNat = n := by decide +kernel
end
section
/-! documents as trees: var n a text of n characters, neg a flush, pow a k a nest, add beside, sub above, mul a choice -/
abbrev tr_T : Type := Lean.Grind.CommRing.Expr
abbrev mt_M : Type := Nat × Nat × Nat × Nat
def tr_sz : tr_T → Nat
  | .neg a => tr_sz a + 1
  | .pow a _ => tr_sz a + 1
  | .add a b => tr_sz a + tr_sz b + 1
  | .sub a b => tr_sz a + tr_sz b + 1
  | .mul a b => tr_sz a + tr_sz b + 1
  | _ => 1
def tr_nc : tr_T → Nat
  | .var n => n
  | .neg a => tr_nc a
  | .pow a _ => tr_nc a
  | .add a b => tr_nc a + tr_nc b
  | .sub a b => tr_nc a + tr_nc b
  | .mul a b => tr_nc a + tr_nc b
  | _ => 0
def tr_cc : tr_T → Nat
  | .neg a => tr_cc a
  | .pow a _ => tr_cc a
  | .add a b => tr_cc a + tr_cc b
  | .sub a b => tr_cc a + tr_cc b
  | .mul a b => tr_cc a + tr_cc b + 1
  | _ => 0
def tr_ok : tr_T → Prop
  | .var _ => True
  | .neg a => tr_ok a
  | .pow a k => tr_ok a ∧ k ≤ 15
  | .add a b => tr_ok a ∧ tr_ok b
  | .sub a b => tr_ok a ∧ tr_ok b
  | .mul a b => tr_ok a ∧ tr_ok b
  | _ => False
theorem tr_ind {P : tr_T → Prop} (h0 : ∀ n, P (.var n)) (h1 : ∀ a, tr_ok a → P a → P (.neg a))
    (h2 : ∀ a k, tr_ok a → k ≤ 15 → P a → P (.pow a k)) (h3 : ∀ a b, tr_ok a → tr_ok b → P a → P b → P (.add a b))
    (h4 : ∀ a b, tr_ok a → tr_ok b → P a → P b → P (.sub a b)) (h5 : ∀ a b, tr_ok a → tr_ok b → P a → P b → P (.mul a b)) :
    ∀ t, tr_ok t → P t := by
  intro t
  induction t with
  | num k => exact fun h => False.elim h
  | natCast k => exact fun h => False.elim h
  | intCast k => exact fun h => False.elim h
  | var n => exact fun _ => h0 n
  | neg a ih => exact fun h => h1 a h (ih h)
  | add a b iha ihb => exact fun h => h3 a b h.1 h.2 (iha h.1) (ihb h.2)
  | sub a b iha ihb => exact fun h => h4 a b h.1 h.2 (iha h.1) (ihb h.2)
  | mul a b iha ihb => exact fun h => h5 a b h.1 h.2 (iha h.1) (ihb h.2)
  | pow a k ih => exact fun h => h2 a k h.1 h.2 (ih h.1)
theorem tr_sz_pos (t : tr_T) : 0 < tr_sz t := by cases t <;> simp [tr_sz]
theorem tr_cc_lt : ∀ t, tr_ok t → tr_cc t < tr_sz t := by
  refine tr_ind ?_ ?_ ?_ ?_ ?_ ?_
  · intro n; simp [tr_cc, tr_sz]
  · intro a _ h; simp only [tr_cc, tr_sz]; omega
  · intro a k _ _ h; simp only [tr_cc, tr_sz]; omega
  · intro a b _ _ ha hb; simp only [tr_cc, tr_sz]; omega
  · intro a b _ _ ha hb; simp only [tr_cc, tr_sz]; omega
  · intro a b _ _ ha hb; simp only [tr_cc, tr_sz]; omega
/-! flat strings -/
def sg_st (q : Nat × Nat × Nat) (c : Nat) : Nat × Nat × Nat :=
  if c = 10 then (q.1 + 1, q.2.1, 0) else (q.1, max q.2.1 (q.2.2 + 1), q.2.2 + 1)
def sg_sc (q : Nat × Nat × Nat) (s : List Nat) : Nat × Nat × Nat := s.foldl sg_st q
def sg_ms (s : List Nat) : Nat × Nat × Nat := sg_sc (1, 0, 0) s
def sg_ind (k : Nat) : List Nat → List Nat
  | [] => []
  | c :: s => if c = 10 then 10 :: (List.replicate k 32 ++ sg_ind k s) else c :: sg_ind k s
theorem sg_sc_nil (q : Nat × Nat × Nat) : sg_sc q [] = q := rfl
theorem sg_sc_cons (q : Nat × Nat × Nat) (c : Nat) (s : List Nat) : sg_sc q (c :: s) = sg_sc (sg_st q c) s := rfl
theorem sg_sc_app (q : Nat × Nat × Nat) (s t : List Nat) : sg_sc q (s ++ t) = sg_sc (sg_sc q s) t := List.foldl_append
theorem sg_st_n (h w l : Nat) : sg_st (h, w, l) 10 = (h + 1, w, 0) := rfl
theorem sg_st_c {c : Nat} (hc : c ≠ 10) (h w l : Nat) : sg_st (h, w, l) c = (h, max w (l + 1), l + 1) := by simp [sg_st, hc]
theorem sg_ind_app (k : Nat) : ∀ s t, sg_ind k (s ++ t) = sg_ind k s ++ sg_ind k t
  | [], t => rfl
  | c :: s, t => by
    simp only [List.cons_append, sg_ind]
    rw [sg_ind_app k s t]
    by_cases h : c = 10 <;> simp [h, List.append_assoc]
theorem sg_ind_ne (k : Nat) : ∀ s : List Nat, (∀ c, c ∈ s → c ≠ 10) → sg_ind k s = s
  | [], _ => rfl
  | c :: s, h => by
    simp only [sg_ind]
    rw [if_neg (h c (by simp)), sg_ind_ne k s (fun d hd => h d (by simp [hd]))]
theorem sg_ind_rep (k n : Nat) : sg_ind k (List.replicate n 32) = List.replicate n 32 := by
  refine sg_ind_ne k _ (fun c hc => ?_)
  rw [(List.mem_replicate.mp hc).2]; decide
theorem sg_ind_0 : ∀ s, sg_ind 0 s = s
  | [] => rfl
  | c :: s => by
    simp only [sg_ind]
    rw [sg_ind_0 s]
    by_cases h : c = 10 <;> simp [h]
theorem sg_ind_ind (c k : Nat) : ∀ s, sg_ind c (sg_ind k s) = sg_ind (c + k) s
  | [] => rfl
  | d :: s => by
    simp only [sg_ind]
    by_cases h : d = 10
    · rw [if_pos h, if_pos h]
      simp only [sg_ind]
      rw [if_pos trivial, sg_ind_app, sg_ind_rep, sg_ind_ind c k s, ← List.append_assoc, List.replicate_append_replicate]
    · rw [if_neg h, if_neg h]
      simp only [sg_ind]
      rw [if_neg h, sg_ind_ind c k s]
theorem sg_sc_ne : ∀ (s : List Nat) (h w l : Nat), (∀ c, c ∈ s → c ≠ 10) → l ≤ w → sg_sc (h, w, l) s = (h, max w (l + s.length), l + s.length)
  | [], h, w, l, _, hl => by simp only [sg_sc_nil, List.length_nil]; congr 2; omega
  | c :: s, h, w, l, hc, hl => by
    rw [sg_sc_cons, sg_st_c (hc c (by simp)), sg_sc_ne s h _ _ (fun d hd => hc d (by simp [hd])) (by omega)]
    simp only [List.length_cons]
    congr 2 <;> omega
theorem sg_sc_rep (n h w l : Nat) (hl : l ≤ w) : sg_sc (h, w, l) (List.replicate n 32) = (h, max w (l + n), l + n) := by
  rw [sg_sc_ne _ _ _ _ (fun c hc => by rw [(List.mem_replicate.mp hc).2]; decide) hl, List.length_replicate]
theorem sg_sc_lw : ∀ (s : List Nat) (h w l : Nat), l ≤ w → (sg_sc (h, w, l) s).2.2 ≤ (sg_sc (h, w, l) s).2.1 ∧ h ≤ (sg_sc (h, w, l) s).1 ∧ w ≤ (sg_sc (h, w, l) s).2.1
  | [], h, w, l, hl => ⟨hl, Nat.le_refl _, Nat.le_refl _⟩
  | c :: s, h, w, l, hl => by
    rw [sg_sc_cons]
    by_cases hc : c = 10
    · subst hc
      rw [sg_st_n]
      have := sg_sc_lw s (h + 1) w 0 (by omega)
      omega
    · rw [sg_st_c hc]
      have := sg_sc_lw s h (max w (l + 1)) (l + 1) (by omega)
      omega
theorem sg_sc_add (c w0 : Nat) : ∀ (s : List Nat) (h w l : Nat), sg_sc (h + c, max w0 w, l) s = ((sg_sc (h, w, l) s).1 + c, max w0 (sg_sc (h, w, l) s).2.1, (sg_sc (h, w, l) s).2.2)
  | [], h, w, l => rfl
  | d :: s, h, w, l => by
    rw [sg_sc_cons, sg_sc_cons]
    by_cases hd : d = 10
    · subst hd
      rw [sg_st_n, sg_st_n, ← sg_sc_add c w0 s (h + 1) w 0]
      congr 2; omega
    · rw [sg_st_c hd, sg_st_c hd, ← sg_sc_add c w0 s h (max w (l + 1)) (l + 1)]
      congr 3; omega
theorem sg_sc_ind (c w0 k : Nat) : ∀ (s : List Nat) (h w l : Nat), sg_sc (h + c, max w0 (k + w), k + l) (sg_ind k s) = ((sg_sc (h, w, l) s).1 + c, max w0 (k + (sg_sc (h, w, l) s).2.1), k + (sg_sc (h, w, l) s).2.2)
  | [], h, w, l => rfl
  | d :: s, h, w, l => by
    rw [sg_sc_cons]
    simp only [sg_ind]
    by_cases hd : d = 10
    · subst hd
      rw [if_pos rfl, sg_sc_cons, sg_st_n, sg_st_n, sg_sc_app, sg_sc_rep _ _ _ _ (by omega), ← sg_sc_ind c w0 k s (h + 1) w 0]
      congr 1
      congr 1
      · omega
      · congr 1 <;> omega
    · rw [if_neg hd, sg_sc_cons, sg_st_c hd, sg_st_c hd, ← sg_sc_ind c w0 k s h (max w (l + 1)) (l + 1)]
      congr 3; omega
theorem sg_len : ∀ (s : List Nat) (h w l : Nat), l ≤ w → s.length + l + h * ((sg_sc (h, w, l) s).2.1 + 1) ≤ (sg_sc (h, w, l) s).1 * ((sg_sc (h, w, l) s).2.1 + 1) + (sg_sc (h, w, l) s).2.2
  | [], h, w, l, _ => by simp only [sg_sc_nil, List.length_nil]; omega
  | c :: s, h, w, l, hl => by
    rw [sg_sc_cons]
    by_cases hc : c = 10
    · subst hc
      rw [sg_st_n]
      have a := sg_len s (h + 1) w 0 (by omega)
      have b := sg_sc_lw s (h + 1) w 0 (by omega)
      rw [Nat.succ_mul] at a
      simp only [List.length_cons]
      omega
    · rw [sg_st_c hc]
      have a := sg_len s h (max w (l + 1)) (l + 1) (by omega)
      simp only [List.length_cons]
      omega
theorem sg_len1 (s : List Nat) : s.length + 1 ≤ (sg_ms s).1 * ((sg_ms s).2.1 + 1) := by
  have a := sg_len s 1 0 0 (by omega)
  have b := sg_sc_lw s 1 0 0 (by omega)
  rw [Nat.one_mul] at a
  unfold sg_ms
  omega
/-! measures -/
def mt_fl (m : mt_M) : mt_M := (m.1 + 1, m.2.1, 0, m.2.2.2)
def mt_ne (k : Nat) (m : mt_M) : mt_M := (m.1, m.2.1 + k, m.2.2.1 + k, m.2.2.2)
def mt_be (m n : mt_M) : mt_M := (m.1 + n.1 - 1, max m.2.1 (n.2.1 + m.2.2.1), n.2.2.1 + m.2.2.1, m.2.2.2 + n.2.2.2)
def mt_ab (m n : mt_M) : mt_M := (m.1 + n.1, max m.2.1 n.2.1, n.2.2.1, m.2.2.2 + n.2.2.2)
def mt_bt (b : Nat) (m : mt_M) : mt_M := (m.1, m.2.1, m.2.2.1, m.2.2.2 + b)
def mt_sh (e : Nat) (m : mt_M) : mt_M := (m.1, m.2.1, m.2.2.1, 2 ^ e * m.2.2.2)
def tr_ms (β : Nat → Bool) : tr_T → Nat → mt_M
  | .var n, _ => (1, n, n, 0)
  | .neg a, o => mt_fl (tr_ms β a o)
  | .pow a k, o => mt_ne k (tr_ms β a o)
  | .add a b, o => mt_be (tr_ms β a o) (tr_ms β b (o + tr_cc a))
  | .sub a b, o => mt_ab (tr_ms β a o) (tr_ms β b (o + tr_cc a))
  | .mul a b, o => if β (o + tr_cc a + tr_cc b) = true then mt_bt (2 ^ (o + tr_cc a + tr_cc b)) (tr_ms β b (o + tr_cc a)) else tr_ms β a o
  | _, _ => (1, 0, 0, 0)
def tr_str (χ : Nat → Nat) (β : Nat → Bool) : tr_T → Nat → Nat → List Nat
  | .var n, c, _ => (List.range n).map (fun i => χ (c + i))
  | .neg a, c, o => tr_str χ β a c o ++ [10]
  | .pow a k, c, o => List.replicate k 32 ++ sg_ind k (tr_str χ β a c o)
  | .add a b, c, o => tr_str χ β a c o ++ sg_ind (sg_ms (tr_str χ β a c o)).2.2 (tr_str χ β b (c + tr_nc a) (o + tr_cc a))
  | .sub a b, c, o => tr_str χ β a c o ++ 10 :: tr_str χ β b (c + tr_nc a) (o + tr_cc a)
  | .mul a b, c, o => if β (o + tr_cc a + tr_cc b) = true then tr_str χ β b (c + tr_nc a) (o + tr_cc a) else tr_str χ β a c o
  | _, _, _ => []
theorem tr_str_ms (χ : Nat → Nat) (β : Nat → Bool) (hχ : ∀ i, χ i ≠ 10) : ∀ t, tr_ok t → ∀ c o, sg_ms (tr_str χ β t c o) = ((tr_ms β t o).1, (tr_ms β t o).2.1, (tr_ms β t o).2.2.1) := by
  refine tr_ind ?_ ?_ ?_ ?_ ?_ ?_
  · intro n c o
    simp only [tr_str, tr_ms, sg_ms]
    rw [sg_sc_ne _ _ _ _ (fun d hd => by obtain ⟨i, _, rfl⟩ := List.mem_map.mp hd; exact hχ _) (by omega)]
    simp
  · intro a _ ih c o
    simp only [tr_str, tr_ms, sg_ms, mt_fl]
    have h := ih c o
    simp only [sg_ms] at h
    rw [sg_sc_app, h]
    rfl
  · intro a k _ _ ih c o
    simp only [tr_str, tr_ms, sg_ms, mt_ne]
    have h := ih c o
    simp only [sg_ms] at h
    rw [sg_sc_app, sg_sc_rep _ _ _ _ (by omega)]
    have e := sg_sc_ind 0 0 k (tr_str χ β a c o) 1 0 0
    rw [h] at e
    simp only [Nat.add_zero, Nat.zero_add] at e ⊢
    rw [e]
    congr 1
    congr 1 <;> omega
  · intro a b _ _ iha ihb c o
    have ha := iha c o
    have hb := ihb (c + tr_nc a) (o + tr_cc a)
    have lw := sg_sc_lw (tr_str χ β a c o) 1 0 0 (by omega)
    simp only [tr_str, tr_ms, mt_be]
    rw [ha]
    simp only [sg_ms] at ha hb ⊢
    rw [ha] at lw
    rw [sg_sc_app, ha]
    generalize tr_ms β a o = p at *
    generalize tr_ms β b (o + tr_cc a) = q at *
    obtain ⟨p1, p2, p3, p4⟩ := p
    obtain ⟨q1, q2, q3, q4⟩ := q
    dsimp only at *
    have e := sg_sc_ind (p1 - 1) p2 p3 (tr_str χ β b (c + tr_nc a) (o + tr_cc a)) 1 0 0
    rw [hb] at e
    have e2 : ((1 + (p1 - 1), max p2 (p3 + 0), p3 + 0) : Nat × Nat × Nat) = (p1, p2, p3) := by
      congr 1
      · omega
      · congr 1; omega
    rw [e2] at e
    rw [e]
    dsimp only
    congr 1
    · omega
    · congr 1
      · congr 1; omega
      · omega
  · intro a b _ _ iha ihb c o
    have ha := iha c o
    have hb := ihb (c + tr_nc a) (o + tr_cc a)
    simp only [tr_str, tr_ms, mt_ab]
    simp only [sg_ms] at ha hb ⊢
    rw [sg_sc_app, ha, sg_sc_cons, sg_st_n]
    generalize tr_ms β a o = p at *
    generalize tr_ms β b (o + tr_cc a) = q at *
    obtain ⟨p1, p2, p3, p4⟩ := p
    obtain ⟨q1, q2, q3, q4⟩ := q
    dsimp only at *
    have e := sg_sc_add p1 p2 (tr_str χ β b (c + tr_nc a) (o + tr_cc a)) 1 0 0
    rw [hb] at e
    have e2 : ((1 + p1, max p2 0, 0) : Nat × Nat × Nat) = (p1 + 1, p2, 0) := by
      congr 1
      · omega
      · congr 1; omega
    rw [e2] at e
    rw [e]
    dsimp only
    congr 1
    omega
  · intro a b _ _ iha ihb c o
    simp only [tr_str, tr_ms]
    by_cases h : β (o + tr_cc a + tr_cc b) = true
    · rw [if_pos h, if_pos h, ihb]; rfl
    · rw [if_neg h, if_neg h, iha]
/-- heights, widths of a layout against the sizes of the tree -/
theorem tr_ms_bd (β : Nat → Bool) : ∀ t, tr_ok t → ∀ o, 1 ≤ (tr_ms β t o).1 ∧ (tr_ms β t o).1 ≤ tr_sz t ∧ (tr_ms β t o).2.1 ≤ tr_nc t + 15 * tr_sz t ∧ (tr_ms β t o).2.2.1 ≤ (tr_ms β t o).2.1 := by
  refine tr_ind ?_ ?_ ?_ ?_ ?_ ?_
  · intro n o; simp only [tr_ms, tr_sz, tr_nc]; omega
  · intro a _ ih o; have := ih o; simp only [tr_ms, tr_sz, tr_nc, mt_fl]; omega
  · intro a k _ hk ih o; have := ih o; simp only [tr_ms, tr_sz, tr_nc, mt_ne]; omega
  · intro a b _ _ iha ihb o
    have := iha o; have := ihb (o + tr_cc a)
    simp only [tr_ms, tr_sz, tr_nc, mt_be]; omega
  · intro a b _ _ iha ihb o
    have := iha o; have := ihb (o + tr_cc a)
    simp only [tr_ms, tr_sz, tr_nc, mt_ab]; omega
  · intro a b _ _ iha ihb o
    have := iha o; have := ihb (o + tr_cc a)
    simp only [tr_ms, tr_sz, tr_nc]
    by_cases h : β (o + tr_cc a + tr_cc b) = true
    · rw [if_pos h]; simp only [mt_bt]; omega
    · rw [if_neg h]; omega
theorem tr_str_len (χ : Nat → Nat) (β : Nat → Bool) (hχ : ∀ i, χ i ≠ 10) (t : tr_T) (ht : tr_ok t) (c o : Nat) (hn : tr_nc t ≤ 64) (hs : tr_sz t ≤ 40) : (tr_str χ β t c o).length + 1 ≤ 665 * tr_sz t := by
  have a := sg_len1 (tr_str χ β t c o)
  rw [tr_str_ms χ β hχ t ht] at a
  have b := tr_ms_bd β t ht o
  refine Nat.le_trans a ?_
  refine Nat.le_trans (Nat.mul_le_mul b.2.1 (Nat.succ_le_succ b.2.2.1)) ?_
  rw [Nat.mul_comm]
  exact Nat.mul_le_mul (by omega) (Nat.le_refl _)
theorem tr_str_ch (χ : Nat → Nat) (β : Nat → Bool) (hχ : ∀ i, 32 ≤ χ i ∧ χ i ≤ 126) : ∀ t, tr_ok t → ∀ c o d, d ∈ tr_str χ β t c o → d < 127 := by
  have hi : ∀ (k : Nat) (s : List Nat), (∀ d, d ∈ s → d < 127) → ∀ d, d ∈ sg_ind k s → d < 127 := by
    intro k s
    induction s with
    | nil => intro _ d hd; simp [sg_ind] at hd
    | cons x s ih =>
      intro h d hd
      simp only [sg_ind] at hd
      by_cases hx : x = 10
      · rw [if_pos hx] at hd
        rcases List.mem_cons.mp hd with e | hd
        · omega
        · rcases List.mem_append.mp hd with hd | hd
          · have := (List.mem_replicate.mp hd).2; omega
          · exact ih (fun d hd => h d (by simp [hd])) d hd
      · rw [if_neg hx] at hd
        rcases List.mem_cons.mp hd with e | hd
        · rw [e]; exact h x (by simp)
        · exact ih (fun d hd => h d (by simp [hd])) d hd
  refine tr_ind ?_ ?_ ?_ ?_ ?_ ?_
  · intro n c o d hd
    obtain ⟨i, _, rfl⟩ := List.mem_map.mp hd
    have := hχ (c + i)
    omega
  · intro a _ ih c o d hd
    simp only [tr_str] at hd
    rcases List.mem_append.mp hd with hd | hd
    · exact ih _ _ _ hd
    · have := List.mem_singleton.mp hd; omega
  · intro a k _ _ ih c o d hd
    simp only [tr_str] at hd
    rcases List.mem_append.mp hd with hd | hd
    · have := (List.mem_replicate.mp hd).2; omega
    · exact hi _ _ (ih _ _) d hd
  · intro a b _ _ iha ihb c o d hd
    simp only [tr_str] at hd
    rcases List.mem_append.mp hd with hd | hd
    · exact iha _ _ _ hd
    · exact hi _ _ (ihb _ _) d hd
  · intro a b _ _ iha ihb c o d hd
    simp only [tr_str] at hd
    rcases List.mem_append.mp hd with hd | hd
    · exact iha _ _ _ hd
    · rcases List.mem_cons.mp hd with e | hd
      · omega
      · exact ihb _ _ _ hd
  · intro a b _ _ iha ihb c o d hd
    simp only [tr_str] at hd
    by_cases h : β (o + tr_cc a + tr_cc b) = true
    · rw [if_pos h] at hd; exact ihb _ _ _ hd
    · rw [if_neg h] at hd; exact iha _ _ _ hd
end
section
/-! selections: shifts, ranks, the canonical selection -/
theorem tr_ms_sh (e : Nat) (β β' : Nat → Bool) : ∀ t, tr_ok t → ∀ o, (∀ j, o ≤ j → j < o + tr_cc t → β (e + j) = β' j) → tr_ms β t (e + o) = mt_sh e (tr_ms β' t o) := by
  refine tr_ind ?_ ?_ ?_ ?_ ?_ ?_
  · intro n o _; simp [tr_ms, mt_sh]
  · intro a _ ih o h; simp only [tr_ms]; rw [ih o h]; rfl
  · intro a k _ _ ih o h; simp only [tr_ms]; rw [ih o h]; rfl
  · intro a b _ _ iha ihb o h
    simp only [tr_cc] at h
    simp only [tr_ms]
    rw [iha o (fun j h1 h2 => h j h1 (by omega)), Nat.add_assoc, ihb (o + tr_cc a) (fun j h1 h2 => h j (by omega) (by omega))]
    simp only [mt_be, mt_sh, Nat.mul_add]
  · intro a b _ _ iha ihb o h
    simp only [tr_cc] at h
    simp only [tr_ms]
    rw [iha o (fun j h1 h2 => h j h1 (by omega)), Nat.add_assoc, ihb (o + tr_cc a) (fun j h1 h2 => h j (by omega) (by omega))]
    simp only [mt_ab, mt_sh, Nat.mul_add]
  · intro a b _ _ iha ihb o h
    simp only [tr_cc] at h
    simp only [tr_ms]
    have eN : e + o + tr_cc a + tr_cc b = e + (o + tr_cc a + tr_cc b) := by omega
    have ea : e + o + tr_cc a = e + (o + tr_cc a) := by omega
    rw [eN, h (o + tr_cc a + tr_cc b) (by omega) (by omega), iha o (fun j h1 h2 => h j h1 (by omega)), ea, ihb (o + tr_cc a) (fun j h1 h2 => h j (by omega) (by omega))]
    by_cases hb : β' (o + tr_cc a + tr_cc b) = true
    · rw [if_pos hb, if_pos hb]
      simp only [mt_bt, mt_sh, Nat.mul_add, Nat.pow_add]
    · rw [if_neg hb, if_neg hb]
theorem tr_str_sh (χ : Nat → Nat) (e : Nat) (β β' : Nat → Bool) : ∀ t, tr_ok t → ∀ c o, (∀ j, o ≤ j → j < o + tr_cc t → β (e + j) = β' j) → tr_str χ β t c (e + o) = tr_str χ β' t c o := by
  refine tr_ind ?_ ?_ ?_ ?_ ?_ ?_
  · intro n c o _; rfl
  · intro a _ ih c o h; simp only [tr_str]; rw [ih c o h]
  · intro a k _ _ ih c o h; simp only [tr_str]; rw [ih c o h]
  · intro a b _ _ iha ihb c o h
    simp only [tr_cc] at h
    simp only [tr_str]
    rw [iha c o (fun j h1 h2 => h j h1 (by omega)), Nat.add_assoc e, ihb _ (o + tr_cc a) (fun j h1 h2 => h j (by omega) (by omega))]
  · intro a b _ _ iha ihb c o h
    simp only [tr_cc] at h
    simp only [tr_str]
    rw [iha c o (fun j h1 h2 => h j h1 (by omega)), Nat.add_assoc e, ihb _ (o + tr_cc a) (fun j h1 h2 => h j (by omega) (by omega))]
  · intro a b _ _ iha ihb c o h
    simp only [tr_cc] at h
    simp only [tr_str]
    have eN : e + o + tr_cc a + tr_cc b = e + (o + tr_cc a + tr_cc b) := by omega
    have ea : e + o + tr_cc a = e + (o + tr_cc a) := by omega
    rw [eN, h (o + tr_cc a + tr_cc b) (by omega) (by omega), iha c o (fun j h1 h2 => h j h1 (by omega)), ea, ihb _ (o + tr_cc a) (fun j h1 h2 => h j (by omega) (by omega))]
theorem mt_sh_0 (m : mt_M) : mt_sh 0 m = m := by simp [mt_sh]
theorem tr_ms_cg (β β' : Nat → Bool) (t : tr_T) (ht : tr_ok t) (o : Nat) (h : ∀ j, o ≤ j → j < o + tr_cc t → β j = β' j) : tr_ms β t o = tr_ms β' t o := by
  have e := tr_ms_sh 0 β β' t ht o (fun j h1 h2 => by rw [Nat.zero_add]; exact h j h1 h2)
  rw [Nat.zero_add, mt_sh_0] at e
  exact e
theorem tr_str_cg (χ : Nat → Nat) (β β' : Nat → Bool) (t : tr_T) (ht : tr_ok t) (c o : Nat) (h : ∀ j, o ≤ j → j < o + tr_cc t → β j = β' j) : tr_str χ β t c o = tr_str χ β' t c o := by
  have e := tr_str_sh χ 0 β β' t ht c o (fun j h1 h2 => by rw [Nat.zero_add]; exact h j h1 h2)
  rw [Nat.zero_add] at e
  exact e
/-- a rank is a number of cc bits, moved to o -/
theorem tr_rk (β : Nat → Bool) : ∀ t, tr_ok t → ∀ o, ∃ q, q < 2 ^ tr_cc t ∧ (tr_ms β t o).2.2.2 = 2 ^ o * q := by
  have two : ∀ (x y ca cb o : Nat), x < 2 ^ ca → y < 2 ^ cb → (x + 2 ^ ca * y < 2 ^ (ca + cb) ∧ 2 ^ o * x + 2 ^ (o + ca) * y = 2 ^ o * (x + 2 ^ ca * y)) := by
    intro x y ca cb o hx hy
    constructor
    · rw [Nat.pow_add]
      have : 2 ^ ca * y + 2 ^ ca ≤ 2 ^ ca * 2 ^ cb := by
        rw [← Nat.mul_succ]; exact Nat.mul_le_mul (Nat.le_refl _) hy
      omega
    · rw [Nat.pow_add, Nat.mul_add, Nat.mul_assoc]
  refine tr_ind ?_ ?_ ?_ ?_ ?_ ?_
  · intro n o; exact ⟨0, by simp [tr_cc], by simp [tr_ms]⟩
  · intro a _ ih o; exact ih o
  · intro a k _ _ ih o; exact ih o
  · intro a b _ _ iha ihb o
    obtain ⟨x, hx, ex⟩ := iha o
    obtain ⟨y, hy, ey⟩ := ihb (o + tr_cc a)
    obtain ⟨h1, h2⟩ := two x y _ _ o hx hy
    exact ⟨x + 2 ^ tr_cc a * y, h1, by simp only [tr_ms, mt_be]; rw [ex, ey, h2]⟩
  · intro a b _ _ iha ihb o
    obtain ⟨x, hx, ex⟩ := iha o
    obtain ⟨y, hy, ey⟩ := ihb (o + tr_cc a)
    obtain ⟨h1, h2⟩ := two x y _ _ o hx hy
    exact ⟨x + 2 ^ tr_cc a * y, h1, by simp only [tr_ms, mt_ab]; rw [ex, ey, h2]⟩
  · intro a b _ _ iha ihb o
    by_cases h : β (o + tr_cc a + tr_cc b) = true
    · obtain ⟨y, hy, ey⟩ := ihb (o + tr_cc a)
      obtain ⟨h1, h2⟩ := two 0 y (tr_cc a) (tr_cc b) o (Nat.two_pow_pos _) hy
      refine ⟨2 ^ tr_cc a * y + 2 ^ (tr_cc a + tr_cc b), ?_, ?_⟩
      · simp only [tr_cc, Nat.pow_succ]; omega
      · simp only [tr_ms]
        rw [if_pos h]
        simp only [mt_bt]
        rw [ey, Nat.mul_add, ← Nat.pow_add, ← Nat.mul_assoc, ← Nat.pow_add, Nat.add_assoc]
    · obtain ⟨x, hx, ex⟩ := iha o
      refine ⟨x, ?_, ?_⟩
      · refine Nat.lt_of_lt_of_le hx (Nat.pow_le_pow_right (by omega) ?_)
        simp only [tr_cc]; omega
      · simp only [tr_ms]; rw [if_neg h, ex]
theorem tr_rk_lt (β : Nat → Bool) (t : tr_T) (ht : tr_ok t) (o : Nat) : (tr_ms β t o).2.2.2 < 2 ^ (o + tr_cc t) := by
  obtain ⟨q, hq, e⟩ := tr_rk β t ht o
  rw [e, Nat.pow_add]
  exact Nat.mul_lt_mul_of_pos_left hq (Nat.two_pow_pos o)
theorem bi_lo {x y k j : Nat} (hj : j < k) (hx : x < 2 ^ k) : (x + 2 ^ k * y).testBit j = x.testBit j := by
  rw [Nat.add_comm, Nat.testBit_two_pow_mul_add y hx, if_pos hj]
theorem bi_hi {x y k j : Nat} (hj : k ≤ j) (hx : x < 2 ^ k) : (x + 2 ^ k * y).testBit j = (2 ^ k * y).testBit j := by
  rw [Nat.add_comm, Nat.testBit_two_pow_mul_add y hx, if_neg (by omega)]
  rw [Nat.testBit_two_pow_mul, decide_eq_true (by omega : j ≥ k), Bool.true_and]
/-- the bits of a rank select the layout that has the rank -/
theorem tr_can (χ : Nat → Nat) (β : Nat → Bool) : ∀ t, tr_ok t → ∀ (γ : Nat → Bool) (c o : Nat), (∀ j, o ≤ j → j < o + tr_cc t → γ j = ((tr_ms β t o).2.2.2).testBit j) → tr_ms γ t o = tr_ms β t o ∧ tr_str χ γ t c o = tr_str χ β t c o := by
  have two : ∀ (a b : tr_T), tr_ok a → tr_ok b → ∀ (γ : Nat → Bool) (o : Nat), (∀ j, o ≤ j → j < o + (tr_cc a + tr_cc b) → γ j = ((tr_ms β a o).2.2.2 + (tr_ms β b (o + tr_cc a)).2.2.2).testBit j) →
      (∀ j, o ≤ j → j < o + tr_cc a → γ j = ((tr_ms β a o).2.2.2).testBit j) ∧ (∀ j, o + tr_cc a ≤ j → j < o + tr_cc a + tr_cc b → γ j = ((tr_ms β b (o + tr_cc a)).2.2.2).testBit j) := by
    intro a b ha hb γ o h
    obtain ⟨y, hy, ey⟩ := tr_rk β b hb (o + tr_cc a)
    have hx := tr_rk_lt β a ha o
    rw [ey] at h ⊢
    constructor
    · intro j h1 h2
      rw [h j h1 (by omega), bi_lo (by omega) hx]
    · intro j h1 h2
      rw [h j (by omega) (by omega), bi_hi (by omega) hx]
  refine tr_ind ?_ ?_ ?_ ?_ ?_ ?_
  · intro n γ c o _; exact ⟨rfl, rfl⟩
  · intro a _ ih γ c o h
    obtain ⟨h1, h2⟩ := ih γ c o h
    simp only [tr_ms, tr_str]; rw [h1, h2]; exact ⟨rfl, rfl⟩
  · intro a k _ _ ih γ c o h
    obtain ⟨h1, h2⟩ := ih γ c o h
    simp only [tr_ms, tr_str]; rw [h1, h2]; exact ⟨rfl, rfl⟩
  · intro a b ha hb iha ihb γ c o h
    obtain ⟨p, q⟩ := two a b ha hb γ o h
    obtain ⟨h1, h2⟩ := iha γ c o p
    obtain ⟨h3, h4⟩ := ihb γ (c + tr_nc a) (o + tr_cc a) q
    simp only [tr_ms, tr_str]; rw [h1, h2, h3, h4]; exact ⟨rfl, rfl⟩
  · intro a b ha hb iha ihb γ c o h
    obtain ⟨p, q⟩ := two a b ha hb γ o h
    obtain ⟨h1, h2⟩ := iha γ c o p
    obtain ⟨h3, h4⟩ := ihb γ (c + tr_nc a) (o + tr_cc a) q
    simp only [tr_ms, tr_str]; rw [h1, h2, h3, h4]; exact ⟨rfl, rfl⟩
  · intro a b ha hb iha ihb γ c o h
    simp only [tr_ms, tr_cc] at h
    simp only [tr_ms, tr_str]
    by_cases hN : β (o + tr_cc a + tr_cc b) = true
    · rw [if_pos hN] at h
      simp only [mt_bt] at h
      have hy := tr_rk_lt β b hb (o + tr_cc a)
      have e1 : (tr_ms β b (o + tr_cc a)).2.2.2 + 2 ^ (o + tr_cc a + tr_cc b) = (tr_ms β b (o + tr_cc a)).2.2.2 + 2 ^ (o + tr_cc a + tr_cc b) * 1 := by rw [Nat.mul_one]
      rw [e1] at h
      have g : γ (o + tr_cc a + tr_cc b) = true := by
        rw [h _ (by omega) (by omega), bi_hi (Nat.le_refl _) hy, Nat.mul_one, Nat.testBit_two_pow_self]
      obtain ⟨h3, h4⟩ := ihb γ (c + tr_nc a) (o + tr_cc a) (fun j h1 h2 => by rw [h j (by omega) (by omega), bi_lo (by omega) hy])
      rw [if_pos g, if_pos hN, if_pos g, if_pos hN, h3, h4]
      exact ⟨rfl, rfl⟩
    · rw [if_neg hN] at h
      have hx := tr_rk_lt β a ha o
      have g : γ (o + tr_cc a + tr_cc b) = false := by
        rw [h _ (by omega) (by omega)]
        exact Nat.testBit_lt_two_pow (Nat.lt_of_lt_of_le hx (Nat.pow_le_pow_right (by omega) (by omega)))
      have g' : ¬ γ (o + tr_cc a + tr_cc b) = true := by rw [g]; decide
      obtain ⟨h3, h4⟩ := iha γ c o (fun j h1 h2 => h j (by omega) (by omega))
      rw [if_neg g', if_neg hN, if_neg g', if_neg hN, h3, h4]
      exact ⟨rfl, rfl⟩
/-! a rank is at most the mask that selects it -/
def bs_sum (β : Nat → Bool) (o : Nat) : Nat → Nat
  | 0 => 0
  | k + 1 => bs_sum β o k + (if β (o + k) = true then 2 ^ (o + k) else 0)
theorem bs_add (β : Nat → Bool) (o a : Nat) : ∀ b, bs_sum β o (a + b) = bs_sum β o a + bs_sum β (o + a) b
  | 0 => rfl
  | b + 1 => by
    rw [← Nat.add_assoc]
    simp only [bs_sum]
    rw [bs_add β o a b, Nat.add_assoc o a b]
    omega
theorem tr_rk_bs (β : Nat → Bool) : ∀ t, tr_ok t → ∀ o, (tr_ms β t o).2.2.2 ≤ bs_sum β o (tr_cc t) := by
  refine tr_ind ?_ ?_ ?_ ?_ ?_ ?_
  · intro n o; simp [tr_ms]
  · intro a _ ih o; exact ih o
  · intro a k _ _ ih o; exact ih o
  · intro a b _ _ iha ihb o
    have := iha o; have := ihb (o + tr_cc a)
    simp only [tr_ms, mt_be, tr_cc]; rw [bs_add]; omega
  · intro a b _ _ iha ihb o
    have := iha o; have := ihb (o + tr_cc a)
    simp only [tr_ms, mt_ab, tr_cc]; rw [bs_add]; omega
  · intro a b _ _ iha ihb o
    have := iha o; have := ihb (o + tr_cc a)
    simp only [tr_ms, tr_cc, bs_sum]; rw [bs_add, ← Nat.add_assoc o]
    by_cases h : β (o + tr_cc a + tr_cc b) = true
    · rw [if_pos h, if_pos h]; simp only [mt_bt]; omega
    · rw [if_neg h, if_neg h]; omega
theorem bs_mod (m : Nat) : ∀ k, bs_sum (fun j => m.testBit j) 0 k = m % 2 ^ k
  | 0 => by simp [bs_sum, Nat.mod_one]
  | k + 1 => by
    simp only [bs_sum]
    rw [bs_mod m k, Nat.zero_add, Nat.pow_succ, Nat.mod_mul]
    have e := Nat.testBit_eq_decide_div_mod_eq (x := m) (i := k)
    rcases Nat.mod_two_eq_zero_or_one (m / 2 ^ k) with h | h
    · rw [h] at e ⊢
      rw [if_neg (by show ¬ m.testBit k = true; rw [e]; decide)]; omega
    · rw [h] at e ⊢
      rw [if_pos (by show m.testBit k = true; rw [e]; decide)]; omega
theorem tr_rk_le (t : tr_T) (ht : tr_ok t) (m : Nat) : (tr_ms (fun j => m.testBit j) t 0).2.2.2 ≤ m := by
  refine Nat.le_trans (tr_rk_bs _ t ht 0) ?_
  rw [bs_mod]
  exact Nat.mod_le _ _
end
section
/-! the frontier of measures -/
def ml_le (x y : mt_M) : Bool := decide (x.1 ≤ y.1) && (decide (x.2.1 ≤ y.2.1) && (decide (x.2.2.1 ≤ y.2.2.1) && decide (x.2.2.2 ≤ y.2.2.2)))
theorem ml_le_iff {x y : mt_M} : ml_le x y = true ↔ x.1 ≤ y.1 ∧ x.2.1 ≤ y.2.1 ∧ x.2.2.1 ≤ y.2.2.1 ∧ x.2.2.2 ≤ y.2.2.2 := by
  simp only [ml_le, Bool.and_eq_true, decide_eq_true_eq]
theorem ml_le_rf (x : mt_M) : ml_le x x = true := ml_le_iff.mpr ⟨Nat.le_refl _, Nat.le_refl _, Nat.le_refl _, Nat.le_refl _⟩
theorem ml_le_tr {x y z : mt_M} (h : ml_le x y = true) (g : ml_le y z = true) : ml_le x z = true := by
  rw [ml_le_iff] at *; omega
def fo_off (L : List mt_M) (m : mt_M) : List mt_M :=
  if L.any (fun x => ml_le x m) = true then L else L.filter (fun x => !ml_le m x) ++ [m]
theorem fo_sub1 (L : List mt_M) (m : mt_M) : (fo_off L m).Sublist (L ++ [m]) := by
  unfold fo_off
  by_cases h : L.any (fun x => ml_le x m) = true
  · rw [if_pos h]; exact List.sublist_append_left L [m]
  · rw [if_neg h]; exact List.Sublist.append_right List.filter_sublist [m]
theorem fo_dom1 (L : List mt_M) (m x : mt_M) (hx : x ∈ L ++ [m]) : ∃ y, y ∈ fo_off L m ∧ ml_le y x = true := by
  unfold fo_off
  by_cases h : L.any (fun x => ml_le x m) = true
  · rw [if_pos h]
    rcases List.mem_append.mp hx with hx | hx
    · exact ⟨x, hx, ml_le_rf x⟩
    · rw [List.mem_singleton.mp hx]
      obtain ⟨y, hy, e⟩ := List.any_eq_true.mp h
      exact ⟨y, hy, e⟩
  · rw [if_neg h]
    by_cases hm : ml_le m x = true
    · exact ⟨m, by simp, hm⟩
    · rcases List.mem_append.mp hx with hx | hx
      · exact ⟨x, List.mem_append.mpr (Or.inl (List.mem_filter.mpr ⟨hx, by simp [hm]⟩)), ml_le_rf x⟩
      · rw [List.mem_singleton.mp hx] at hm
        exact absurd (ml_le_rf m) hm
theorem fo_sub : ∀ (O L : List mt_M), (O.foldl fo_off L).Sublist (L ++ O)
  | [], L => by simp
  | m :: O, L => by
    refine List.Sublist.trans (fo_sub O (fo_off L m)) ?_
    have := List.Sublist.append_right (fo_sub1 L m) O
    rw [List.append_assoc] at this
    exact this
theorem fo_dom : ∀ (O L : List mt_M) (x : mt_M), x ∈ L ++ O → ∃ y, y ∈ O.foldl fo_off L ∧ ml_le y x = true
  | [], L, x, hx => ⟨x, by simpa using hx, ml_le_rf x⟩
  | m :: O, L, x, hx => by
    have hx' : x ∈ (L ++ [m]) ++ O := by rw [List.append_assoc]; exact hx
    rcases List.mem_append.mp hx' with h | h
    · obtain ⟨y, hy, e⟩ := fo_dom1 L m x h
      obtain ⟨z, hz, e2⟩ := fo_dom O (fo_off L m) y (List.mem_append.mpr (Or.inl hy))
      exact ⟨z, hz, ml_le_tr e2 e⟩
    · exact fo_dom O (fo_off L m) x (List.mem_append.mpr (Or.inr h))
def fo_room : List mt_M → List mt_M → Prop
  | _, [] => True
  | L, m :: O => L.length + 1 ≤ 64 ∧ fo_room (fo_off L m) O
theorem fo_room_of : ∀ (O L : List mt_M), (∀ l : List mt_M, l.Sublist (L ++ O) → l.length ≤ 64) → fo_room L O
  | [], L, _ => trivial
  | m :: O, L, h => by
    refine ⟨?_, fo_room_of O (fo_off L m) (fun l hl => h l (hl.trans ?_))⟩
    · have := h (L ++ [m]) (by
        have := List.Sublist.append_left (List.singleton_sublist.mpr (List.mem_cons_self (a := m) (l := O))) L
        exact this)
      simpa using this
    · have := List.Sublist.append_right (fo_sub1 L m) O
      rw [List.append_assoc] at this
      exact this
def fo_rk (L : List mt_M) : Prop := L.Pairwise (fun x y => x.2.2.2 ≠ y.2.2.2)
theorem fo_cnt (o c : Nat) (L : List mt_M) (h : fo_rk L) (hq : ∀ x, x ∈ L → ∃ q, q < 2 ^ c ∧ x.2.2.2 = 2 ^ o * q) : L.length ≤ 2 ^ c := by
  have hp : 0 < 2 ^ o := Nat.two_pow_pos o
  have n : (L.map (fun x => x.2.2.2 / 2 ^ o)).Nodup := by
    unfold List.Nodup
    rw [List.pairwise_map]
    refine List.Pairwise.imp_of_mem ?_ h
    intro a b ha hb hne he
    obtain ⟨p, _, ep⟩ := hq a ha
    obtain ⟨q, _, eq⟩ := hq b hb
    rw [ep, eq, Nat.mul_div_cancel_left _ hp, Nat.mul_div_cancel_left _ hp] at he
    exact hne (by rw [ep, eq, he])
  have := List.Nodup.length_le_of_subset n (l₂ := List.range (2 ^ c)) (by
    intro y hy
    obtain ⟨x, hx, rfl⟩ := List.mem_map.mp hy
    obtain ⟨q, hq, e⟩ := hq x hx
    rw [e, Nat.mul_div_cancel_left _ hp]
    exact List.mem_range.mpr hq)
  simpa using this
/-- L is the frontier of the document t, its choices numbered from o -/
def fo_FR (t : tr_T) (o : Nat) (L : List mt_M) : Prop :=
  (∀ m, m ∈ L → ∃ β, m = tr_ms β t o) ∧ (∀ β, ∃ m, m ∈ L ∧ ml_le m (tr_ms β t o) = true) ∧ fo_rk L
def fo_OF (t : tr_T) (o : Nat) (O : List mt_M) : Prop := fo_FR t o O
theorem fo_FR_len {t : tr_T} {o : Nat} {L : List mt_M} (ht : tr_ok t) (h : fo_FR t o L) : L.length ≤ 2 ^ tr_cc t := by
  refine fo_cnt o (tr_cc t) L h.2.2 (fun x hx => ?_)
  obtain ⟨β, rfl⟩ := h.1 x hx
  exact tr_rk β t ht o
theorem fo_FR_pos {t : tr_T} {o : Nat} {L : List mt_M} (h : fo_FR t o L) : 0 < L.length := by
  obtain ⟨m, hm, _⟩ := h.2.1 (fun _ => false)
  exact List.length_pos_of_mem hm
theorem fo_FR_of {t : tr_T} {o : Nat} {O : List mt_M} (ht : tr_ok t) (hc : tr_cc t ≤ 6) (h : fo_OF t o O) : fo_FR t o (O.foldl fo_off []) ∧ fo_room [] O := by
  have s := fo_sub O []
  rw [List.nil_append] at s
  refine ⟨⟨fun m hm => h.1 m (s.subset hm), fun β => ?_, List.Pairwise.sublist s h.2.2⟩, fo_room_of O [] (fun l hl => ?_)⟩
  · obtain ⟨x, hx, e⟩ := h.2.1 β
    obtain ⟨y, hy, e2⟩ := fo_dom O [] x (by simpa using hx)
    exact ⟨y, hy, ml_le_tr e2 e⟩
  · rw [List.nil_append] at hl
    refine Nat.le_trans (fo_cnt o (tr_cc t) l (List.Pairwise.sublist hl h.2.2) (fun x hx => ?_)) ?_
    · obtain ⟨β, rfl⟩ := h.1 x (hl.subset hx)
      exact tr_rk β t ht o
    · exact Nat.le_trans (Nat.pow_le_pow_right (by omega) hc) (by decide)
/-! the offers of each call -/
theorem fo_text (n o : Nat) : fo_OF (.var n) o [(1, n, n, 0)] :=
  ⟨fun m hm => ⟨fun _ => false, List.mem_singleton.mp hm⟩, fun β => ⟨_, List.mem_singleton.mpr rfl, ml_le_rf _⟩, List.pairwise_singleton _ _⟩
theorem fo_text_inv {n o : Nat} {L : List mt_M} (h : fo_FR (.var n) o L) : L = [(1, n, n, 0)] := by
  have a : ∀ m, m ∈ L → m = (1, n, n, 0) := fun m hm => by obtain ⟨β, e⟩ := h.1 m hm; exact e
  have b := fo_FR_pos h
  have c := fo_FR_len (t := .var n) trivial h
  simp only [tr_cc, Nat.pow_zero] at c
  obtain ⟨x, rfl⟩ := List.length_eq_one_iff.mp (by omega : L.length = 1)
  rw [a x (by simp)]
theorem fo_flush {a : tr_T} {o : Nat} {L : List mt_M} (h : fo_FR a o L) : fo_OF (.neg a) o (L.map mt_fl) := by
  refine ⟨fun m hm => ?_, fun β => ?_, ?_⟩
  · obtain ⟨x, hx, rfl⟩ := List.mem_map.mp hm
    obtain ⟨β, rfl⟩ := h.1 x hx
    exact ⟨β, rfl⟩
  · obtain ⟨x, hx, e⟩ := h.2.1 β
    refine ⟨mt_fl x, List.mem_map.mpr ⟨x, hx, rfl⟩, ?_⟩
    rw [ml_le_iff] at e ⊢
    simp only [tr_ms, mt_fl]; omega
  · unfold fo_rk; rw [List.pairwise_map]; exact h.2.2
theorem fo_nest {a : tr_T} {o k : Nat} {L : List mt_M} (h : fo_FR a o L) : fo_OF (.pow a k) o (L.map (mt_ne k)) := by
  refine ⟨fun m hm => ?_, fun β => ?_, ?_⟩
  · obtain ⟨x, hx, rfl⟩ := List.mem_map.mp hm
    obtain ⟨β, rfl⟩ := h.1 x hx
    exact ⟨β, rfl⟩
  · obtain ⟨x, hx, e⟩ := h.2.1 β
    refine ⟨mt_ne k x, List.mem_map.mpr ⟨x, hx, rfl⟩, ?_⟩
    rw [ml_le_iff] at e ⊢
    simp only [tr_ms, mt_ne]; omega
  · unfold fo_rk; rw [List.pairwise_map]; exact h.2.2
/-- two selections of neighbours make one -/
theorem fo_two {a b : tr_T} (ha : tr_ok a) (hb : tr_ok b) (o : Nat) (β1 β2 : Nat → Bool) : ∃ β, tr_ms β a o = tr_ms β1 a o ∧ tr_ms β b (o + tr_cc a) = tr_ms β2 b (o + tr_cc a) := by
  refine ⟨fun j => if j < o + tr_cc a then β1 j else β2 j, tr_ms_cg _ _ a ha o (fun j h1 h2 => if_pos h2), tr_ms_cg _ _ b hb _ (fun j h1 h2 => if_neg (by omega))⟩
theorem fo_rk_two {a b : tr_T} (ha : tr_ok a) (hb : tr_ok b) {o : Nat} {La Lb : List mt_M} (h : fo_FR a o La) (g : fo_FR b (o + tr_cc a) Lb) (J : mt_M → mt_M → mt_M) (hJ : ∀ x y, (J x y).2.2.2 = x.2.2.2 + y.2.2.2) :
    fo_rk (La.flatMap (fun x => Lb.map (J x))) := by
  have uq : ∀ x x' y y' : mt_M, x ∈ La → x' ∈ La → y ∈ Lb → y' ∈ Lb → x.2.2.2 + y.2.2.2 = x'.2.2.2 + y'.2.2.2 → x.2.2.2 = x'.2.2.2 ∧ y.2.2.2 = y'.2.2.2 := by
    intro x x' y y' hx hx' hy hy' e
    obtain ⟨b1, rfl⟩ := h.1 x hx
    obtain ⟨b2, rfl⟩ := h.1 x' hx'
    obtain ⟨b3, rfl⟩ := g.1 y hy
    obtain ⟨b4, rfl⟩ := g.1 y' hy'
    obtain ⟨q3, _, e3⟩ := tr_rk b3 b hb (o + tr_cc a)
    obtain ⟨q4, _, e4⟩ := tr_rk b4 b hb (o + tr_cc a)
    have l1 := tr_rk_lt b1 a ha o
    have l2 := tr_rk_lt b2 a ha o
    rw [e3, e4] at e ⊢
    have f := congrArg (· % 2 ^ (o + tr_cc a)) e
    simp only [Nat.add_mul_mod_self_left, Nat.mod_eq_of_lt l1, Nat.mod_eq_of_lt l2] at f
    exact ⟨f, by omega⟩
  unfold fo_rk
  rw [List.pairwise_flatMap]
  constructor
  · intro x hx
    rw [List.pairwise_map]
    refine List.Pairwise.imp_of_mem ?_ g.2.2
    intro y y' hy hy' hne he
    rw [hJ, hJ] at he
    exact hne (uq x x y y' hx hx hy hy' he).2
  · refine List.Pairwise.imp_of_mem ?_ h.2.2
    intro x x' hx hx' hne z hz z' hz' he
    obtain ⟨y, hy, rfl⟩ := List.mem_map.mp hz
    obtain ⟨y', hy', rfl⟩ := List.mem_map.mp hz'
    rw [hJ, hJ] at he
    exact hne (uq x x' y y' hx hx' hy hy' he).1
theorem fo_beside {a b : tr_T} (ha : tr_ok a) (hb : tr_ok b) {o : Nat} {La Lb : List mt_M} (h : fo_FR a o La) (g : fo_FR b (o + tr_cc a) Lb) : fo_OF (.add a b) o (La.flatMap (fun x => Lb.map (mt_be x))) := by
  refine ⟨fun m hm => ?_, fun β => ?_, fo_rk_two ha hb h g mt_be (fun x y => rfl)⟩
  · obtain ⟨x, hx, hm⟩ := List.mem_flatMap.mp hm
    obtain ⟨y, hy, rfl⟩ := List.mem_map.mp hm
    obtain ⟨b1, rfl⟩ := h.1 x hx
    obtain ⟨b2, rfl⟩ := g.1 y hy
    obtain ⟨β, e1, e2⟩ := fo_two ha hb o b1 b2
    exact ⟨β, by simp only [tr_ms]; rw [e1, e2]⟩
  · obtain ⟨x, hx, e⟩ := h.2.1 β
    obtain ⟨y, hy, f⟩ := g.2.1 β
    refine ⟨mt_be x y, List.mem_flatMap.mpr ⟨x, hx, List.mem_map.mpr ⟨y, hy, rfl⟩⟩, ?_⟩
    rw [ml_le_iff] at e f ⊢
    simp only [tr_ms, mt_be]; omega
theorem fo_above {a b : tr_T} (ha : tr_ok a) (hb : tr_ok b) {o : Nat} {La Lb : List mt_M} (h : fo_FR a o La) (g : fo_FR b (o + tr_cc a) Lb) : fo_OF (.sub a b) o (La.flatMap (fun x => Lb.map (mt_ab x))) := by
  refine ⟨fun m hm => ?_, fun β => ?_, fo_rk_two ha hb h g mt_ab (fun x y => rfl)⟩
  · obtain ⟨x, hx, hm⟩ := List.mem_flatMap.mp hm
    obtain ⟨y, hy, rfl⟩ := List.mem_map.mp hm
    obtain ⟨b1, rfl⟩ := h.1 x hx
    obtain ⟨b2, rfl⟩ := g.1 y hy
    obtain ⟨β, e1, e2⟩ := fo_two ha hb o b1 b2
    exact ⟨β, by simp only [tr_ms]; rw [e1, e2]⟩
  · obtain ⟨x, hx, e⟩ := h.2.1 β
    obtain ⟨y, hy, f⟩ := g.2.1 β
    refine ⟨mt_ab x y, List.mem_flatMap.mpr ⟨x, hx, List.mem_map.mpr ⟨y, hy, rfl⟩⟩, ?_⟩
    rw [ml_le_iff] at e f ⊢
    simp only [tr_ms, mt_ab]; omega
theorem fo_choice {a b : tr_T} (ha : tr_ok a) (hb : tr_ok b) {o : Nat} {La Lb : List mt_M} (h : fo_FR a o La) (g : fo_FR b (o + tr_cc a) Lb) : fo_OF (.mul a b) o (La ++ Lb.map (mt_bt (2 ^ (o + tr_cc a + tr_cc b)))) := by
  refine ⟨fun m hm => ?_, fun β => ?_, ?_⟩
  · rcases List.mem_append.mp hm with hm | hm
    · obtain ⟨b1, rfl⟩ := h.1 m hm
      refine ⟨fun j => if j < o + tr_cc a then b1 j else false, ?_⟩
      simp only [tr_ms]
      rw [if_neg (by rw [if_neg (by omega)]; decide)]
      exact tr_ms_cg _ _ a ha o (fun j h1 h2 => (if_pos h2).symm)
    · obtain ⟨y, hy, rfl⟩ := List.mem_map.mp hm
      obtain ⟨b2, rfl⟩ := g.1 y hy
      refine ⟨fun j => if j < o + tr_cc a + tr_cc b then b2 j else true, ?_⟩
      simp only [tr_ms]
      rw [if_pos (by rw [if_neg (by omega)])]
      exact congrArg _ (tr_ms_cg _ _ b hb _ (fun j h1 h2 => (if_pos h2).symm))
  · simp only [tr_ms]
    by_cases hN : β (o + tr_cc a + tr_cc b) = true
    · rw [if_pos hN]
      obtain ⟨y, hy, f⟩ := g.2.1 β
      refine ⟨mt_bt (2 ^ (o + tr_cc a + tr_cc b)) y, List.mem_append.mpr (Or.inr (List.mem_map.mpr ⟨y, hy, rfl⟩)), ?_⟩
      rw [ml_le_iff] at f ⊢
      simp only [mt_bt]; omega
    · rw [if_neg hN]
      obtain ⟨x, hx, e⟩ := h.2.1 β
      exact ⟨x, List.mem_append.mpr (Or.inl hx), e⟩
  · unfold fo_rk
    rw [List.pairwise_append]
    refine ⟨h.2.2, ?_, ?_⟩
    · rw [List.pairwise_map]
      refine List.Pairwise.imp ?_ g.2.2
      intro x y hne he
      simp only [mt_bt] at he
      exact hne (by omega)
    · intro x hx y hy he
      obtain ⟨z, hz, rfl⟩ := List.mem_map.mp hy
      obtain ⟨b1, rfl⟩ := h.1 x hx
      have l := tr_rk_lt b1 a ha o
      simp only [mt_bt] at he
      have : 2 ^ (o + tr_cc a) ≤ 2 ^ (o + tr_cc a + tr_cc b) := Nat.pow_le_pow_right (by omega) (by omega)
      omega
theorem fo_shift {t : tr_T} (ht : tr_ok t) {o e : Nat} {L : List mt_M} (h : fo_FR t o L) : fo_FR t (e + o) (L.map (mt_sh e)) := by
  refine ⟨fun m hm => ?_, fun β => ?_, ?_⟩
  · obtain ⟨x, hx, rfl⟩ := List.mem_map.mp hm
    obtain ⟨β, rfl⟩ := h.1 x hx
    refine ⟨fun j => β (j - e), ?_⟩
    rw [tr_ms_sh e (fun j => β (j - e)) β t ht o (fun j h1 h2 => by rw [Nat.add_sub_cancel_left])]
  · obtain ⟨x, hx, f⟩ := h.2.1 (fun j => β (e + j))
    refine ⟨mt_sh e x, List.mem_map.mpr ⟨x, hx, rfl⟩, ?_⟩
    rw [tr_ms_sh e β (fun j => β (e + j)) t ht o (fun j h1 h2 => rfl)]
    rw [ml_le_iff] at f ⊢
    simp only [mt_sh]
    exact ⟨f.1, f.2.1, f.2.2.1, Nat.mul_le_mul_left _ f.2.2.2⟩
  · unfold fo_rk
    rw [List.pairwise_map]
    refine List.Pairwise.imp ?_ h.2.2
    intro x y hne he
    simp only [mt_sh] at he
    exact hne (Nat.eq_of_mul_eq_mul_left (Nat.two_pow_pos e) he)
/-! the best -/
def bt_ov (page : Nat) (w : Nat) : Nat := w - page
/-- the order of layouts: over, height, rank -/
def bt_lt (page : Nat) (x y : mt_M) : Prop := bt_ov page x.2.1 < bt_ov page y.2.1 ∨ (bt_ov page x.2.1 = bt_ov page y.2.1 ∧ (x.1 < y.1 ∨ (x.1 = y.1 ∧ x.2.2.2 < y.2.2.2)))
def bt_mk (t : tr_T) (k : Nat) : mt_M := tr_ms (fun j => k.testBit j) t 0
/-- X's least entry is Y's first least mask -/
theorem bt_same {t : tr_T} (ht : tr_ok t) {o page : Nat} {L : List mt_M} (h : fo_FR t o L) {m : mt_M} (hm : m ∈ L) (hx : ∀ x, x ∈ L → ¬ bt_lt page x m)
    {k : Nat} (hk : k < 2 ^ tr_cc t) (hy : ∀ j, j < 2 ^ tr_cc t → bt_ov page (bt_mk t k).2.1 < bt_ov page (bt_mk t j).2.1 ∨ (bt_ov page (bt_mk t k).2.1 = bt_ov page (bt_mk t j).2.1 ∧ ((bt_mk t k).1 < (bt_mk t j).1 ∨ ((bt_mk t k).1 = (bt_mk t j).1 ∧ k ≤ j)))) :
    m.2.2.2 = 2 ^ o * k ∧ ∀ χ β c, (∀ j, o ≤ j → j < o + tr_cc t → β j = m.2.2.2.testBit j) → tr_ms β t o = m ∧ tr_str χ β t c o = tr_str χ (fun j => k.testBit j) t c 0 := by
  obtain ⟨b, rfl⟩ := h.1 m hm
  -- the mask of the entry
  obtain ⟨q, hq, eq⟩ := tr_rk b t ht o
  have shq : ∀ j, (2 ^ o * q).testBit (o + j) = q.testBit j := by
    intro j
    rw [Nat.testBit_two_pow_mul, decide_eq_true (by omega : o + j ≥ o), Bool.true_and, Nat.add_sub_cancel_left]
  have mq : tr_ms b t o = mt_sh o (bt_mk t q) := by
    have e1 := (tr_can (fun _ => 0) b t ht (fun j => (tr_ms b t o).2.2.2.testBit j) 0 o (fun j _ _ => rfl)).1
    rw [← e1]
    have e2 := tr_ms_sh o (fun j => (tr_ms b t o).2.2.2.testBit j) (fun j => q.testBit j) t ht 0 (fun j _ _ => by
      show (tr_ms b t o).2.2.2.testBit (o + j) = q.testBit j
      rw [eq]; exact shq j)
    rw [Nat.add_zero] at e2
    exact e2
  -- the entry that is at least as good as Y's mask
  obtain ⟨x, hxL, e⟩ := h.2.1 (fun j => k.testBit (j - o))
  have mk : tr_ms (fun j => k.testBit (j - o)) t o = mt_sh o (bt_mk t k) := by
    have e2 := tr_ms_sh o (fun j => k.testBit (j - o)) (fun j => k.testBit j) t ht 0 (fun j _ _ => by
      show k.testBit (o + j - o) = k.testBit j
      rw [Nat.add_sub_cancel_left])
    rw [Nat.add_zero] at e2
    exact e2
  rw [mk, ml_le_iff] at e
  have hn := hx x hxL
  have hkq := hy q hq
  have hle := tr_rk_le t ht k
  have hqk : q = k := by
    rw [mq] at hn
    have er : (tr_ms b t o).2.2.2 = 2 ^ o * (bt_mk t q).2.2.2 := by rw [mq]; rfl
    have eqq : (bt_mk t q).2.2.2 = q := Nat.eq_of_mul_eq_mul_left (Nat.two_pow_pos o) (er.symm.trans eq)
    have hp : 0 < 2 ^ o := Nat.two_pow_pos o
    have hck : (bt_mk t k).2.2.2 ≤ k := hle
    obtain ⟨e1, e2, e3, e4⟩ := e
    unfold bt_lt at hn
    simp only [mt_sh] at e1 e2 e3 e4 hn
    have e4' : x.2.2.2 ≤ 2 ^ o * k := Nat.le_trans e4 (Nat.mul_le_mul_left _ hck)
    rw [eqq] at hn
    unfold bt_ov at *
    have hz : q ≤ k ∨ k < q := by omega
    rcases hz with hz | hz
    · omega
    · have : 2 ^ o * k < 2 ^ o * q := Nat.mul_lt_mul_of_pos_left hz hp
      omega
  subst hqk
  refine ⟨eq, fun χ β c hβ => ?_⟩
  obtain ⟨e1, e2⟩ := tr_can χ b t ht β c o hβ
  refine ⟨e1, ?_⟩
  have e3 := tr_str_sh χ o β (fun j => q.testBit j) t ht c 0 (fun j h1 h2 => by
    show β (o + j) = q.testBit j
    rw [hβ (o + j) (by omega) (by omega), eq]; exact shq j)
  rw [Nat.add_zero] at e3
  exact e3
end
section
/-! lists of measures in four arrays -/
def mt_bd (m : mt_M) : Prop := m.1 < 4096 ∧ m.2.1 < 4096 ∧ m.2.2.1 < 4096 ∧ m.2.2.2 < 4096 ∧ 1 ≤ m.1
def ml_e (a b c d : Nat → Int32) (i : Nat) (m : mt_M) : Prop := a i = nI m.1 ∧ b i = nI m.2.1 ∧ c i = nI m.2.2.1 ∧ d i = nI m.2.2.2 ∧ mt_bd m
def ml_at (a b c d : Nat → Int32) : Nat → List mt_M → Prop
  | _, [] => True
  | i, m :: L => ml_e a b c d i m ∧ ml_at a b c d (i + 1) L
theorem ml_cg {a b c d a' b' c' d' : Nat → Int32} : ∀ (L : List mt_M) (i : Nat), (∀ j, i ≤ j → j < i + L.length → a' j = a j ∧ b' j = b j ∧ c' j = c j ∧ d' j = d j) → ml_at a b c d i L → ml_at a' b' c' d' i L
  | [], _, _, _ => trivial
  | m :: L, i, h, g => by
    obtain ⟨e1, e2, e3, e4⟩ := h i (Nat.le_refl _) (by simp only [List.length_cons]; omega)
    refine ⟨?_, ml_cg L (i + 1) (fun j h1 h2 => h j (by omega) (by simp only [List.length_cons]; omega)) g.2⟩
    unfold ml_e
    rw [e1, e2, e3, e4]
    exact g.1
theorem ml_app {a b c d : Nat → Int32} : ∀ (P R : List mt_M) (i : Nat), ml_at a b c d i (P ++ R) ↔ ml_at a b c d i P ∧ ml_at a b c d (i + P.length) R
  | [], R, i => by simp [ml_at]
  | m :: P, R, i => by
    simp only [List.cons_append, ml_at, List.length_cons]
    rw [ml_app P R (i + 1), show i + 1 + P.length = i + (P.length + 1) by omega]
    exact and_assoc.symm
theorem ml_snoc {a b c d : Nat → Int32} {P : List mt_M} {i : Nat} {m : mt_M} (h : ml_at a b c d i P) (g : ml_e a b c d (i + P.length) m) : ml_at a b c d i (P ++ [m]) :=
  (ml_app P [m] i).mpr ⟨h, g, trivial⟩
theorem ml_get {a b c d : Nat → Int32} : ∀ (L : List mt_M) (i j : Nat) (m : mt_M), ml_at a b c d i L → L[j]? = some m → ml_e a b c d (i + j) m
  | [], _, _, _, _, h => by simp at h
  | x :: L, i, 0, m, g, h => by simp at h; rw [← h]; exact g.1
  | x :: L, i, j + 1, m, g, h => by
    have := ml_get L (i + 1) j m g.2 (by simpa using h)
    rw [show i + (j + 1) = i + 1 + j by omega]; exact this
theorem ml_upd {a b c d : Nat → Int32} {L : List mt_M} {i k : Nat} {x y z w : Int32} (hk : k < i ∨ i + L.length ≤ k) (h : ml_at a b c d i L) : ml_at (upd a k x) (upd b k y) (upd c k z) (upd d k w) i L :=
  ml_cg L i (fun j h1 h2 => ⟨pk_un (by omega), pk_un (by omega), pk_un (by omega), pk_un (by omega)⟩) h
theorem ml_put {a b c d : Nat → Int32} {P : List mt_M} {k : Nat} {m : mt_M} (hm : mt_bd m) (hk : k = P.length) (h : ml_at a b c d 0 P) : ml_at (upd a k (nI m.1)) (upd b k (nI m.2.1)) (upd c k (nI m.2.2.1)) (upd d k (nI m.2.2.2)) 0 (P ++ [m]) := by
  refine ml_snoc (ml_upd (by omega) h) ?_
  rw [Nat.zero_add, ← hk]
  exact ⟨pk_us, pk_us, pk_us, pk_us, hm⟩
theorem ml_bd {a b c d : Nat → Int32} : ∀ (L : List mt_M) (i : Nat), ml_at a b c d i L → ∀ m, m ∈ L → mt_bd m
  | [], _, _, _, h => by simp at h
  | x :: L, i, g, m, h => by
    rcases List.mem_cons.mp h with e | h
    · rw [e]; exact g.1.2.2.2.2
    · exact ml_bd L (i + 1) g.2 m h
section
variable {kT kF kN kA kB kC sH sN sE nl cl hl doc nod chr cho mea sc ph pw rc dep : Int32} {dN dC dH dM nK nV nZ nS pl mH mW mL mR cH cW cL cR lE rN rR rC st tN tB tS : Nat → Int32}
theorem xr_loop {post : SX → Prop} {m : mt_M} (hm : mt_bd m) {c : Nat} (hc : c ≤ 64) {Q : List mt_M}
    (K : ∀ cH' cW' cL' cR' : Nat → Int32, ml_at cH' cW' cL' cR' 0 Q → post (kT, kF, kN, kA, kB, kC, sH, sN, sE, nl, cl, hl, doc, nod, chr, cho, mea, nI Q.length, ph, pw, rc, dep, dN, dC, dH, dM, nK, nV, nZ, nS, pl, mH, mW, mL, mR, cH', cW', cL', cR', lE, rN, rR, rC, st, tN, tB, tS)) :
    ∀ (R P : List mt_M) (i n : Nat) (cH cW cL cR : Nat → Int32), P ++ R.filter (fun x => !ml_le m x) = Q → P.length ≤ i → i + R.length = c → R.length < n → ml_at cH cW cL cR 0 P → ml_at cH cW cL cR i R →
      wX_removeBeaten_6 post (nI m.1) (nI m.2.1) (nI m.2.2.1) (nI m.2.2.2) kT kF kN kA kB kC sH sN sE nl cl hl doc nod chr cho mea (nI c) ph pw rc dep n (nI P.length) (nI i) dN dC dH dM nK nV nZ nS pl mH mW mL mR cH cW cL cR lE rN rR rC st tN tB tS := by
  intro R
  induction R with
  | nil =>
    intro P i n cH cW cL cR hQ hPi hi hn hP _
    obtain ⟨n, rfl⟩ : ∃ k, n = k + 1 := ⟨n - 1, by simp only [List.length_nil] at hn; omega⟩
    simp only [List.filter_nil, List.append_nil] at hQ
    subst hQ
    simp only [List.length_nil] at hi
    exact br_t (nI_le (by omega) (by omega)) (K cH cW cL cR hP)
  | cons r R ih =>
    intro P i n cH cW cL cR hQ hPi hi hn hP hR
    simp only [List.length_cons] at hi hn
    obtain ⟨n, rfl⟩ : ∃ k, n = k + 1 := ⟨n - 1, by omega⟩
    obtain ⟨⟨e1, e2, e3, e4, hb⟩, hR⟩ := hR
    have ci : (nI i).toNatClampNeg = i := nI_clamp (by omega)
    have cp : (nI P.length).toNatClampNeg = P.length := nI_clamp (by omega)
    have hin : vp_in (nI i) 64 := vp_in_nI (by omega) (by omega)
    have hpn : vp_in (nI P.length) 64 := vp_in_nI (by omega) (by omega)
    have f1 : cH (nI i).toNatClampNeg = nI r.1 := by rw [ci]; exact e1
    have f2 : cW (nI i).toNatClampNeg = nI r.2.1 := by rw [ci]; exact e2
    have f3 : cL (nI i).toNatClampNeg = nI r.2.2.1 := by rw [ci]; exact e3
    have f4 : cR (nI i).toNatClampNeg = nI r.2.2.2 := by rw [ci]; exact e4
    obtain ⟨m1, m2, m3, m4⟩ := hm
    obtain ⟨r1, r2, r3, r4⟩ := id hb
    have t1 : cH (nI i).toNatClampNeg < nI m.1 ↔ r.1 < m.1 := by rw [f1]; exact nI_ltI (by omega) (by omega)
    have t2 : cW (nI i).toNatClampNeg < nI m.2.1 ↔ r.2.1 < m.2.1 := by rw [f2]; exact nI_ltI (by omega) (by omega)
    have t3 : cL (nI i).toNatClampNeg < nI m.2.2.1 ↔ r.2.2.1 < m.2.2.1 := by rw [f3]; exact nI_ltI (by omega) (by omega)
    have t4 : cR (nI i).toNatClampNeg < nI m.2.2.2 ↔ r.2.2.2 < m.2.2.2 := by rw [f4]; exact nI_ltI (by omega) (by omega)
    by_cases hB : ml_le m r = true
    · have q := ml_le_iff.mp hB
      have hQ' : P ++ R.filter (fun x => !ml_le m x) = Q := by rw [← hQ, List.filter_cons_of_neg (by simp [hB])]
      exact br_f (nI_ge (by omega) (by omega)) <| And.intro hin <| br_f (by rw [t1]; omega) <| And.intro hin <| br_f (by rw [t2]; omega) <| And.intro hin <| br_f (by rw [t3]; omega) <| And.intro hin <| br_f (by rw [t4]; omega) <|
        br_f (by decide) <| nm_r (nI_1 i) <| ih P (i + 1) n cH cW cL cR hQ' (by omega) (by omega) (by omega) hP hR
    · have hQ' : (P ++ [r]) ++ R.filter (fun x => !ml_le m x) = Q := by rw [← hQ, List.filter_cons_of_pos (by simp [hB]), List.append_assoc]; rfl
      have K65 : wX_removeBeaten_64 post (wX_removeBeaten_6 post (nI m.1) (nI m.2.1) (nI m.2.2.1) (nI m.2.2.2) kT kF kN kA kB kC sH sN sE nl cl hl doc nod chr cho mea (nI c) ph pw rc dep n) (nI m.1) (nI m.2.1) (nI m.2.2.1) (nI m.2.2.2) (nI P.length) (nI i) kT kF kN kA kB kC sH sN sE nl cl hl doc nod chr cho mea (nI c) ph pw rc dep dN dC dH dM nK nV nZ nS pl mH mW mL mR cH cW cL cR lE rN rR rC st tN tB tS :=
        br_t rfl <| And.intro hin <| And.intro hpn <| nm_r (e' := upd cH P.length (nI r.1)) (by rw [cp, f1]) <|
          And.intro hin <| And.intro hpn <| nm_r (e' := upd cW P.length (nI r.2.1)) (by rw [cp, f2]) <|
          And.intro hin <| And.intro hpn <| nm_r (e' := upd cL P.length (nI r.2.2.1)) (by rw [cp, f3]) <|
          And.intro hin <| And.intro hpn <| nm_r (e' := upd cR P.length (nI r.2.2.2)) (by rw [cp, f4]) <|
          nm_r (e' := nI (P ++ [r]).length) (by rw [nI_1, List.length_append]; rfl) <|
          nm_r (nI_1 i) <|
            ih (P ++ [r]) (i + 1) n _ _ _ _ hQ' (by rw [List.length_append]; simp only [List.length_singleton]; omega) (by omega) (by omega) (ml_put hb rfl hP) (ml_upd (by omega) hR)
      exact br_f (nI_ge (by omega) (by omega)) <| And.intro hin <| br_c (fun _ => K65) fun h1 => And.intro hin <| br_c (fun _ => K65) fun h2 => And.intro hin <| br_c (fun _ => K65) fun h3 => And.intro hin <| br_c (fun _ => K65)
        fun h4 => absurd (ml_le_iff.mpr (by rw [t1] at h1; rw [t2] at h2; rw [t3] at h3; rw [t4] at h4; omega)) hB
theorem xr_all {post : SX → Prop} {m : mt_M} (hm : mt_bd m) {L : List mt_M} (hL : L.length ≤ 64) (hs : ml_at cH cW cL cR 0 L)
    (K : ∀ cH' cW' cL' cR' : Nat → Int32, ml_at cH' cW' cL' cR' 0 (L.filter (fun x => !ml_le m x)) → post (kT, kF, kN, kA, kB, kC, sH, sN, sE, nl, cl, hl, doc, nod, chr, cho, mea, nI (L.filter (fun x => !ml_le m x)).length, ph, pw, rc, dep, dN, dC, dH, dM, nK, nV, nZ, nS, pl, mH, mW, mL, mR, cH', cW', cL', cR', lE, rN, rR, rC, st, tN, tB, tS)) :
    wpX_removeBeaten post (kT, kF, kN, kA, kB, kC, sH, sN, sE, nl, cl, hl, doc, nod, chr, cho, mea, nI L.length, ph, pw, rc, dep, dN, dC, dH, dM, nK, nV, nZ, nS, pl, mH, mW, mL, mR, cH, cW, cL, cR, lE, rN, rR, rC, st, tN, tB, tS) (nI m.1) (nI m.2.1) (nI m.2.2.1) (nI m.2.2.2) :=
  Exists.intro (L.length + 1) (xr_loop hm hL K L [] 0 (L.length + 1) cH cW cL cR (List.nil_append _) (Nat.le_refl _) (Nat.zero_add _) (Nat.lt_succ_self _) trivial hs)
theorem xo_loop {post : SX → Prop} {m : mt_M} (hm : mt_bd m) {L : List mt_M} (hL : L.length + 1 ≤ 64) (hs : ml_at cH cW cL cR 0 L)
    (K : ∀ cH' cW' cL' cR' : Nat → Int32, ml_at cH' cW' cL' cR' 0 (fo_off L m) → post (kT, kF, kN, kA, kB, kC, sH, sN, sE, nl, cl, hl, doc, nod, chr, cho, mea, nI (fo_off L m).length, ph, pw, rc, dep, dN, dC, dH, dM, nK, nV, nZ, nS, pl, mH, mW, mL, mR, cH', cW', cL', cR', lE, rN, rR, rC, st, tN, tB, tS)) :
    ∀ (R P : List mt_M) (n : Nat), P ++ R = L → (∀ x, x ∈ P → ¬ ml_le x m = true) → R.length < n →
      wX_offer_3 post (nI m.1) (nI m.2.1) (nI m.2.2.1) (nI m.2.2.2) kT kF kN kA kB kC sH sN sE nl cl hl doc nod chr cho mea (nI L.length) ph pw rc dep dN dC dH dM nK nV nZ nS pl mH mW mL mR cH cW cL cR lE rN rR rC st tN tB tS n (nI P.length) := by
  intro R
  induction R with
  | nil =>
    intro P n hPR hP hn
    obtain ⟨n, rfl⟩ : ∃ k, n = k + 1 := ⟨n - 1, by simp only [List.length_nil] at hn; omega⟩
    rw [List.append_nil] at hPR
    subst hPR
    have hF : (P.filter (fun x => !ml_le m x)).length ≤ P.length := List.length_filter_le _ _
    have hany : ¬ P.any (fun x => ml_le x m) = true := by
      intro h
      obtain ⟨x, hx, e⟩ := List.any_eq_true.mp h
      exact hP x hx e
    have hfo : fo_off P m = P.filter (fun x => !ml_le m x) ++ [m] := by unfold fo_off; rw [if_neg hany]
    have cF : (nI (P.filter (fun x => !ml_le m x)).length).toNatClampNeg = (P.filter (fun x => !ml_le m x)).length := nI_clamp (by omega)
    have hin : vp_in (nI (P.filter (fun x => !ml_le m x)).length) 64 := vp_in_nI (by omega) (by omega)
    exact br_t (nI_le (by omega) (by omega)) <| xr_all hm (by omega) hs fun a b c d h =>
      And.intro hin <| nm_r (e' := upd a (P.filter (fun x => !ml_le m x)).length (nI m.1)) (by rw [cF]) <|
      And.intro hin <| nm_r (e' := upd b (P.filter (fun x => !ml_le m x)).length (nI m.2.1)) (by rw [cF]) <|
      And.intro hin <| nm_r (e' := upd c (P.filter (fun x => !ml_le m x)).length (nI m.2.2.1)) (by rw [cF]) <|
      And.intro hin <| nm_r (e' := upd d (P.filter (fun x => !ml_le m x)).length (nI m.2.2.2)) (by rw [cF]) <|
      nm_r (e' := nI (fo_off P m).length) (by rw [hfo, nI_1, List.length_append]; rfl) <|
        K _ _ _ _ (by rw [hfo]; exact ml_put hm rfl h)
  | cons r R ih =>
    intro P n hPR hP hn
    simp only [List.length_cons] at hn
    obtain ⟨n, rfl⟩ : ∃ k, n = k + 1 := ⟨n - 1, by omega⟩
    have hlen : L.length = P.length + (R.length + 1) := by rw [← hPR, List.length_append, List.length_cons]
    have hR := ((ml_app P (r :: R) 0).mp (by rw [hPR]; exact hs)).2
    rw [Nat.zero_add] at hR
    obtain ⟨⟨e1, e2, e3, e4, hb⟩, _⟩ := hR
    have ci : (nI P.length).toNatClampNeg = P.length := nI_clamp (by omega)
    have hin : vp_in (nI P.length) 64 := vp_in_nI (by omega) (by omega)
    obtain ⟨m1, m2, m3, m4⟩ := id hm
    obtain ⟨r1, r2, r3, r4⟩ := id hb
    have t1 : nI m.1 < cH (nI P.length).toNatClampNeg ↔ m.1 < r.1 := by rw [ci, e1]; exact nI_ltI (by omega) (by omega)
    have t2 : nI m.2.1 < cW (nI P.length).toNatClampNeg ↔ m.2.1 < r.2.1 := by rw [ci, e2]; exact nI_ltI (by omega) (by omega)
    have t3 : nI m.2.2.1 < cL (nI P.length).toNatClampNeg ↔ m.2.2.1 < r.2.2.1 := by rw [ci, e3]; exact nI_ltI (by omega) (by omega)
    have t4 : nI m.2.2.2 < cR (nI P.length).toNatClampNeg ↔ m.2.2.2 < r.2.2.2 := by rw [ci, e4]; exact nI_ltI (by omega) (by omega)
    by_cases hB : ml_le r m = true
    · have q := ml_le_iff.mp hB
      have hfo : fo_off L m = L := by
        unfold fo_off
        rw [if_pos (List.any_eq_true.mpr ⟨r, by rw [← hPR]; simp, hB⟩)]
      rw [hfo] at K
      exact br_f (nI_ge (by omega) (by omega)) <| And.intro hin <| br_f (by rw [t1]; omega) <| And.intro hin <| br_f (by rw [t2]; omega) <| And.intro hin <| br_f (by rw [t3]; omega) <| And.intro hin <| br_f (by rw [t4]; omega) <|
        K cH cW cL cR hs
    · have N : wX_offer_3 post (nI m.1) (nI m.2.1) (nI m.2.2.1) (nI m.2.2.2) kT kF kN kA kB kC sH sN sE nl cl hl doc nod chr cho mea (nI L.length) ph pw rc dep dN dC dH dM nK nV nZ nS pl mH mW mL mR cH cW cL cR lE rN rR rC st tN tB tS n (nI (P ++ [r]).length) :=
        ih (P ++ [r]) n (by rw [← hPR, List.append_assoc]; rfl) (fun x hx => by
          rcases List.mem_append.mp hx with h | h
          · exact hP x h
          · rw [List.mem_singleton.mp h]; exact hB) (by omega)
      have eN : nI P.length + 1 = nI (P ++ [r]).length := by rw [nI_1, List.length_append]; rfl
      exact br_f (nI_ge (by omega) (by omega)) <| And.intro hin <| br_c (fun _ => nm_r eN N) fun h1 => And.intro hin <| br_c (fun _ => nm_r eN N) fun h2 => And.intro hin <| br_c (fun _ => nm_r eN N) fun h3 => And.intro hin <| br_c (fun _ => nm_r eN N)
        fun h4 => absurd (ml_le_iff.mpr (by rw [t1] at h1; rw [t2] at h2; rw [t3] at h3; rw [t4] at h4; omega)) hB
theorem xo_all {post : SX → Prop} {m : mt_M} {a1 a2 a3 a4 s : Int32} (hm : mt_bd m) {L : List mt_M} (hL : L.length + 1 ≤ 64) (hs : ml_at cH cW cL cR 0 L)
    (h1 : a1 = nI m.1) (h2 : a2 = nI m.2.1) (h3 : a3 = nI m.2.2.1) (h4 : a4 = nI m.2.2.2) (h5 : s = nI L.length)
    (K : ∀ cH' cW' cL' cR' : Nat → Int32, ml_at cH' cW' cL' cR' 0 (fo_off L m) → post (kT, kF, kN, kA, kB, kC, sH, sN, sE, nl, cl, hl, doc, nod, chr, cho, mea, nI (fo_off L m).length, ph, pw, rc, dep, dN, dC, dH, dM, nK, nV, nZ, nS, pl, mH, mW, mL, mR, cH', cW', cL', cR', lE, rN, rR, rC, st, tN, tB, tS)) :
    wpX_offer post (kT, kF, kN, kA, kB, kC, sH, sN, sE, nl, cl, hl, doc, nod, chr, cho, mea, s, ph, pw, rc, dep, dN, dC, dH, dM, nK, nV, nZ, nS, pl, mH, mW, mL, mR, cH, cW, cL, cR, lE, rN, rR, rC, st, tN, tB, tS) a1 a2 a3 a4 := by
  subst h1 h2 h3 h4 h5
  exact Exists.intro (L.length + 1) (xo_loop hm hL hs K L [] (L.length + 1) (List.nil_append _) (fun x hx => by simp at hx) (Nat.lt_succ_self _))
end
end
section
/-! the stack of documents, top first -/
abbrev ds_D : Type := List (tr_T × List mt_M)
def ds_sz : ds_D → Nat
  | [] => 0
  | p :: r => ds_sz r + tr_sz p.1
def ds_nc : ds_D → Nat
  | [] => 0
  | p :: r => ds_nc r + tr_nc p.1
def ds_cc : ds_D → Nat
  | [] => 0
  | p :: r => ds_cc r + tr_cc p.1
def ds_mo : ds_D → Nat
  | [] => 0
  | p :: r => ds_mo r + p.2.length
def ds_ok : ds_D → Prop
  | [] => True
  | p :: r => ds_ok r ∧ tr_ok p.1 ∧ fo_FR p.1 (ds_cc r) p.2
theorem ds_len_sz : ∀ r : ds_D, r.length ≤ ds_sz r
  | [] => Nat.le_refl _
  | p :: r => by
    have := ds_len_sz r
    have := tr_sz_pos p.1
    simp only [List.length_cons, ds_sz]; omega
theorem ds_mo_le : ∀ r : ds_D, ds_ok r → ds_mo r + 1 ≤ r.length + 2 ^ ds_cc r
  | [], _ => by simp [ds_mo, ds_cc]
  | p :: r, h => by
    have a := ds_mo_le r h.1
    have b := fo_FR_len h.2.1 h.2.2
    simp only [ds_mo, ds_cc, List.length_cons, Nat.pow_add]
    have p1 := Nat.two_pow_pos (ds_cc r)
    have p2 := Nat.two_pow_pos (tr_cc p.1)
    generalize 2 ^ ds_cc r = x at *
    generalize 2 ^ tr_cc p.1 = y at *
    have : x + y ≤ x * y + 1 := by
      obtain ⟨x, rfl⟩ : ∃ k, x = k + 1 := ⟨x - 1, by omega⟩
      obtain ⟨y, rfl⟩ : ∃ k, y = k + 1 := ⟨y - 1, by omega⟩
      rw [Nat.succ_mul, Nat.mul_succ]; omega
    omega
theorem ds_mo_le6 {r : ds_D} (h : ds_ok r) (hs : ds_sz r ≤ 40) (hc : ds_cc r ≤ 6) : ds_mo r ≤ 103 := by
  have a := ds_mo_le r h
  have b := ds_len_sz r
  have : 2 ^ ds_cc r ≤ 2 ^ 6 := Nat.pow_le_pow_right (by omega) hc
  omega
/-! X's arrays -/
def rx_at (dN dC dH dM : Nat → Int32) (d s c h m : Nat) : Prop := dN d = nI s ∧ dC d = nI c ∧ dH d = nI h ∧ dM d = nI m
def rx_nd (nK nV nZ nS : Nat → Int32) : tr_T → Nat → Nat → Nat → Prop
  | .var n, s, c, _ => nK s = nI 0 ∧ nV s = nI n ∧ nZ s = nI 1 ∧ nS s = nI c
  | .neg a, s, c, o => rx_nd nK nV nZ nS a s c o ∧ nK (s + tr_sz a) = nI 1 ∧ nZ (s + tr_sz a) = nI (tr_sz a + 1) ∧ nS (s + tr_sz a) = nI c
  | .pow a k, s, c, o => rx_nd nK nV nZ nS a s c o ∧ nK (s + tr_sz a) = nI 2 ∧ nV (s + tr_sz a) = nI k ∧ nZ (s + tr_sz a) = nI (tr_sz a + 1) ∧ nS (s + tr_sz a) = nI c
  | .add a b, s, c, o => rx_nd nK nV nZ nS a s c o ∧ rx_nd nK nV nZ nS b (s + tr_sz a) (c + tr_nc a) (o + tr_cc a) ∧ nK (s + (tr_sz a + tr_sz b)) = nI 4 ∧ nZ (s + (tr_sz a + tr_sz b)) = nI (tr_sz a + tr_sz b + 1) ∧ nS (s + (tr_sz a + tr_sz b)) = nI c
  | .sub a b, s, c, o => rx_nd nK nV nZ nS a s c o ∧ rx_nd nK nV nZ nS b (s + tr_sz a) (c + tr_nc a) (o + tr_cc a) ∧ nK (s + (tr_sz a + tr_sz b)) = nI 3 ∧ nZ (s + (tr_sz a + tr_sz b)) = nI (tr_sz a + tr_sz b + 1) ∧ nS (s + (tr_sz a + tr_sz b)) = nI c
  | .mul a b, s, c, o => rx_nd nK nV nZ nS a s c o ∧ rx_nd nK nV nZ nS b (s + tr_sz a) (c + tr_nc a) (o + tr_cc a) ∧ nK (s + (tr_sz a + tr_sz b)) = nI 5 ∧ nV (s + (tr_sz a + tr_sz b)) = nI (o + tr_cc a + tr_cc b) ∧ nZ (s + (tr_sz a + tr_sz b)) = nI (tr_sz a + tr_sz b + 1) ∧ nS (s + (tr_sz a + tr_sz b)) = nI c
  | _, _, _, _ => False
theorem rx_nd_cg {nK nV nZ nS nK' nV' nZ' nS' : Nat → Int32} : ∀ t, tr_ok t → ∀ s c o, (∀ j, s ≤ j → j < s + tr_sz t → nK' j = nK j ∧ nV' j = nV j ∧ nZ' j = nZ j ∧ nS' j = nS j) → rx_nd nK nV nZ nS t s c o → rx_nd nK' nV' nZ' nS' t s c o := by
  refine tr_ind ?_ ?_ ?_ ?_ ?_ ?_
  · intro n s c o h g
    obtain ⟨e1, e2, e3, e4⟩ := h s (Nat.le_refl _) (by simp only [tr_sz]; omega)
    simp only [rx_nd] at g ⊢
    rw [e1, e2, e3, e4]; exact g
  · intro a _ ih s c o h g
    simp only [tr_sz] at h
    obtain ⟨e1, e2, e3, e4⟩ := h (s + tr_sz a) (by omega) (by omega)
    simp only [rx_nd] at g ⊢
    rw [e1, e3, e4]
    exact ⟨ih s c o (fun j h1 h2 => h j h1 (by omega)) g.1, g.2⟩
  · intro a k _ _ ih s c o h g
    simp only [tr_sz] at h
    obtain ⟨e1, e2, e3, e4⟩ := h (s + tr_sz a) (by omega) (by omega)
    simp only [rx_nd] at g ⊢
    rw [e1, e2, e3, e4]
    exact ⟨ih s c o (fun j h1 h2 => h j h1 (by omega)) g.1, g.2⟩
  all_goals
    intro a b _ _ iha ihb s c o h g
    simp only [tr_sz] at h
    obtain ⟨e1, e2, e3, e4⟩ := h (s + (tr_sz a + tr_sz b)) (by omega) (by omega)
    simp only [rx_nd] at g ⊢
    simp only [e1, e2, e3, e4]
    exact ⟨iha s c o (fun j h1 h2 => h j h1 (by omega)) g.1, ihb _ _ _ (fun j h1 h2 => h j (by omega) (by omega)) g.2.1, g.2.2⟩
/-- a copy of the nodes, e nodes, ec characters and eo choices further on -/
theorem rx_nd_sh {nK nV nZ nS nK' nV' nZ' nS' : Nat → Int32} {e ec eo : Nat} : ∀ t, tr_ok t → ∀ s c o,
    (∀ j, s ≤ j → j < s + tr_sz t → nK' (j + e) = nK j ∧ nV' (j + e) = (if nK j = 5 then nV j + nI eo else nV j) ∧ nZ' (j + e) = nZ j ∧ nS' (j + e) = nS j + nI ec) →
    rx_nd nK nV nZ nS t s c o → rx_nd nK' nV' nZ' nS' t (s + e) (c + ec) (o + eo) := by
  have n0 : ¬ nI 0 = 5 := by decide
  have n2 : ¬ nI 2 = 5 := by decide
  refine tr_ind ?_ ?_ ?_ ?_ ?_ ?_
  · intro n s c o h g
    obtain ⟨e1, e2, e3, e4⟩ := h s (Nat.le_refl _) (by simp only [tr_sz]; omega)
    simp only [rx_nd] at g ⊢
    obtain ⟨g1, g2, g3, g4⟩ := g
    rw [e1, e2, e3, e4, g1, g2, g3, g4, if_neg n0, nI_add]
    exact ⟨rfl, rfl, rfl, rfl⟩
  · intro a _ ih s c o h g
    simp only [tr_sz] at h
    obtain ⟨e1, e2, e3, e4⟩ := h (s + tr_sz a) (by omega) (by omega)
    simp only [rx_nd] at g ⊢
    obtain ⟨g0, g1, g3, g4⟩ := g
    have es : s + e + tr_sz a = s + tr_sz a + e := by omega
    rw [es, e1, e3, e4, g1, g3, g4, nI_add]
    exact ⟨ih s c o (fun j h1 h2 => h j h1 (by omega)) g0, rfl, rfl, rfl⟩
  · intro a k _ _ ih s c o h g
    simp only [tr_sz] at h
    obtain ⟨e1, e2, e3, e4⟩ := h (s + tr_sz a) (by omega) (by omega)
    simp only [rx_nd] at g ⊢
    obtain ⟨g0, g1, g2, g3, g4⟩ := g
    have es : s + e + tr_sz a = s + tr_sz a + e := by omega
    rw [es, e1, e2, e3, e4, g1, g2, g3, g4, if_neg n2, nI_add]
    exact ⟨ih s c o (fun j h1 h2 => h j h1 (by omega)) g0, rfl, rfl, rfl, rfl⟩
  · intro a b _ _ iha ihb s c o h g
    simp only [tr_sz] at h
    obtain ⟨e1, e2, e3, e4⟩ := h (s + (tr_sz a + tr_sz b)) (by omega) (by omega)
    simp only [rx_nd] at g ⊢
    obtain ⟨ga, gb, g1, g3, g4⟩ := g
    have es : s + e + (tr_sz a + tr_sz b) = s + (tr_sz a + tr_sz b) + e := by omega
    have p1 : s + e + tr_sz a = s + tr_sz a + e := by omega
    have p2 : c + ec + tr_nc a = c + tr_nc a + ec := by omega
    have p3 : o + eo + tr_cc a = o + tr_cc a + eo := by omega
    rw [es, p1, p2, p3, e1, e3, e4, g1, g3, g4, nI_add]
    exact ⟨iha s c o (fun j h1 h2 => h j h1 (by omega)) ga, ihb _ _ _ (fun j h1 h2 => h j (by omega) (by omega)) gb, rfl, rfl, rfl⟩
  · intro a b _ _ iha ihb s c o h g
    simp only [tr_sz] at h
    obtain ⟨e1, e2, e3, e4⟩ := h (s + (tr_sz a + tr_sz b)) (by omega) (by omega)
    simp only [rx_nd] at g ⊢
    obtain ⟨ga, gb, g1, g3, g4⟩ := g
    have es : s + e + (tr_sz a + tr_sz b) = s + (tr_sz a + tr_sz b) + e := by omega
    have p1 : s + e + tr_sz a = s + tr_sz a + e := by omega
    have p2 : c + ec + tr_nc a = c + tr_nc a + ec := by omega
    have p3 : o + eo + tr_cc a = o + tr_cc a + eo := by omega
    rw [es, p1, p2, p3, e1, e3, e4, g1, g3, g4, nI_add]
    exact ⟨iha s c o (fun j h1 h2 => h j h1 (by omega)) ga, ihb _ _ _ (fun j h1 h2 => h j (by omega) (by omega)) gb, rfl, rfl, rfl⟩
  · intro a b _ _ iha ihb s c o h g
    simp only [tr_sz] at h
    obtain ⟨e1, e2, e3, e4⟩ := h (s + (tr_sz a + tr_sz b)) (by omega) (by omega)
    simp only [rx_nd] at g ⊢
    obtain ⟨ga, gb, g1, g2, g3, g4⟩ := g
    have es : s + e + (tr_sz a + tr_sz b) = s + (tr_sz a + tr_sz b) + e := by omega
    have p1 : s + e + tr_sz a = s + tr_sz a + e := by omega
    have p2 : c + ec + tr_nc a = c + tr_nc a + ec := by omega
    have p3 : o + eo + tr_cc a = o + tr_cc a + eo := by omega
    rw [es, p1, p2, p3, e1, e2, e3, e4, g1, g2, g3, g4, if_pos (by decide), nI_add, nI_add]
    exact ⟨iha s c o (fun j h1 h2 => h j h1 (by omega)) ga, ihb _ _ _ (fun j h1 h2 => h j (by omega) (by omega)) gb, rfl, congrArg nI (by omega), rfl, rfl⟩
def rx_ds (dN dC dH dM nK nV nZ nS mH mW mL mR : Nat → Int32) : ds_D → Prop
  | [] => rx_at dN dC dH dM 0 0 0 0 0
  | p :: r => rx_ds dN dC dH dM nK nV nZ nS mH mW mL mR r ∧
    rx_at dN dC dH dM (r.length + 1) (ds_sz (p :: r)) (ds_nc (p :: r)) (ds_cc (p :: r)) (ds_mo (p :: r)) ∧
    rx_nd nK nV nZ nS p.1 (ds_sz r) (ds_nc r) (ds_cc r) ∧ ml_at mH mW mL mR (ds_mo r) p.2
theorem rx_ds_cg {dN dC dH dM nK nV nZ nS mH mW mL mR dN' dC' dH' dM' nK' nV' nZ' nS' mH' mW' mL' mR' : Nat → Int32} : ∀ (r : ds_D), ds_ok r →
    (∀ j, j ≤ r.length → dN' j = dN j ∧ dC' j = dC j ∧ dH' j = dH j ∧ dM' j = dM j) →
    (∀ j, j < ds_sz r → nK' j = nK j ∧ nV' j = nV j ∧ nZ' j = nZ j ∧ nS' j = nS j) →
    (∀ j, j < ds_mo r → mH' j = mH j ∧ mW' j = mW j ∧ mL' j = mL j ∧ mR' j = mR j) →
    rx_ds dN dC dH dM nK nV nZ nS mH mW mL mR r → rx_ds dN' dC' dH' dM' nK' nV' nZ' nS' mH' mW' mL' mR' r
  | [], _, h1, _, _, g => by
    obtain ⟨e1, e2, e3, e4⟩ := h1 0 (Nat.le_refl _)
    simp only [rx_ds, rx_at] at g ⊢
    rw [e1, e2, e3, e4]; exact g
  | p :: r, hk, h1, h2, h3, g => by
    simp only [List.length_cons, ds_sz, ds_mo] at h1 h2 h3
    obtain ⟨e1, e2, e3, e4⟩ := h1 (r.length + 1) (Nat.le_refl _)
    obtain ⟨g0, g1, g2, g3⟩ := g
    refine ⟨rx_ds_cg r hk.1 (fun j q => h1 j (by omega)) (fun j q => h2 j (by omega)) (fun j q => h3 j (by omega)) g0, ?_, ?_, ?_⟩
    · simp only [rx_at] at g1 ⊢
      rw [e1, e2, e3, e4]; exact g1
    · exact rx_nd_cg p.1 hk.2.1 _ _ _ (fun j q1 q2 => h2 j (by omega)) g2
    · exact ml_cg p.2 _ (fun j q1 q2 => h3 j (by omega)) g3
/-- the ends of the pools -/
theorem rx_ds_end {dN dC dH dM nK nV nZ nS mH mW mL mR : Nat → Int32} {r : ds_D} (h : rx_ds dN dC dH dM nK nV nZ nS mH mW mL mR r) : rx_at dN dC dH dM r.length (ds_sz r) (ds_nc r) (ds_cc r) (ds_mo r) := by
  cases r with
  | nil => exact h
  | cons p r => exact h.2.1
theorem rx_push {dN dC dH dM nK nV nZ nS mH mW mL mR nK' nV' nZ' nS' mH' mW' mL' mR' : Nat → Int32} {r : ds_D} {t : tr_T} {Q : List mt_M} {z1 z2 z3 z4 : Int32} (hk : ds_ok r)
    (g : rx_ds dN dC dH dM nK nV nZ nS mH mW mL mR r) (hn : ∀ j, j < ds_sz r → nK' j = nK j ∧ nV' j = nV j ∧ nZ' j = nZ j ∧ nS' j = nS j)
    (hm : ∀ j, j < ds_mo r → mH' j = mH j ∧ mW' j = mW j ∧ mL' j = mL j ∧ mR' j = mR j)
    (ht : rx_nd nK' nV' nZ' nS' t (ds_sz r) (ds_nc r) (ds_cc r)) (hq : ml_at mH' mW' mL' mR' (ds_mo r) Q)
    (e1 : z1 = nI (ds_sz r + tr_sz t)) (e2 : z2 = nI (ds_nc r + tr_nc t)) (e3 : z3 = nI (ds_cc r + tr_cc t)) (e4 : z4 = nI (ds_mo r + Q.length)) :
    rx_ds (upd dN (r.length + 1) z1) (upd dC (r.length + 1) z2) (upd dH (r.length + 1) z3) (upd dM (r.length + 1) z4) nK' nV' nZ' nS' mH' mW' mL' mR' ((t, Q) :: r) :=
  ⟨rx_ds_cg r hk (fun j q => ⟨pk_un (by omega), pk_un (by omega), pk_un (by omega), pk_un (by omega)⟩) hn hm g, ⟨pk_us.trans e1, pk_us.trans e2, pk_us.trans e3, pk_us.trans e4⟩, ht, hq⟩
/-! a new root, at the end of the nodes -/
theorem rx_un {nK nV nZ nS : Nat → Int32} {j k : Nat} {x y z w : Int32} (h : j ≠ k) : upd nK k x j = nK j ∧ upd nV k y j = nV j ∧ upd nZ k z j = nZ j ∧ upd nS k w j = nS j := ⟨pk_un h, pk_un h, pk_un h, pk_un h⟩
theorem rx_mk1 {nK nV nZ nS : Nat → Int32} {a : tr_T} (ha : tr_ok a) {s c o : Nat} {v : Int32} (g : rx_nd nK nV nZ nS a s c o) :
    rx_nd (upd nK (s + tr_sz a) (nI 1)) (upd nV (s + tr_sz a) v) (upd nZ (s + tr_sz a) (nI (tr_sz a + 1))) (upd nS (s + tr_sz a) (nI c)) (.neg a) s c o :=
  ⟨rx_nd_cg a ha s c o (fun j h1 h2 => rx_un (by omega)) g, pk_us, pk_us, pk_us⟩
theorem rx_mk2 {nK nV nZ nS : Nat → Int32} {a : tr_T} (ha : tr_ok a) {s c o k : Nat} (g : rx_nd nK nV nZ nS a s c o) :
    rx_nd (upd nK (s + tr_sz a) (nI 2)) (upd nV (s + tr_sz a) (nI k)) (upd nZ (s + tr_sz a) (nI (tr_sz a + 1))) (upd nS (s + tr_sz a) (nI c)) (.pow a k) s c o :=
  ⟨rx_nd_cg a ha s c o (fun j h1 h2 => rx_un (by omega)) g, pk_us, pk_us, pk_us, pk_us⟩
theorem rx_mk4 {nK nV nZ nS : Nat → Int32} {a b : tr_T} (ha : tr_ok a) (hb : tr_ok b) {s c o : Nat} {v : Int32} (g : rx_nd nK nV nZ nS a s c o) (g' : rx_nd nK nV nZ nS b (s + tr_sz a) (c + tr_nc a) (o + tr_cc a)) :
    rx_nd (upd nK (s + (tr_sz a + tr_sz b)) (nI 4)) (upd nV (s + (tr_sz a + tr_sz b)) v) (upd nZ (s + (tr_sz a + tr_sz b)) (nI (tr_sz a + tr_sz b + 1))) (upd nS (s + (tr_sz a + tr_sz b)) (nI c)) (.add a b) s c o :=
  ⟨rx_nd_cg a ha s c o (fun j h1 h2 => rx_un (by have := tr_sz_pos b; omega)) g, rx_nd_cg b hb _ _ _ (fun j h1 h2 => rx_un (by omega)) g', pk_us, pk_us, pk_us⟩
theorem rx_mk3 {nK nV nZ nS : Nat → Int32} {a b : tr_T} (ha : tr_ok a) (hb : tr_ok b) {s c o : Nat} {v : Int32} (g : rx_nd nK nV nZ nS a s c o) (g' : rx_nd nK nV nZ nS b (s + tr_sz a) (c + tr_nc a) (o + tr_cc a)) :
    rx_nd (upd nK (s + (tr_sz a + tr_sz b)) (nI 3)) (upd nV (s + (tr_sz a + tr_sz b)) v) (upd nZ (s + (tr_sz a + tr_sz b)) (nI (tr_sz a + tr_sz b + 1))) (upd nS (s + (tr_sz a + tr_sz b)) (nI c)) (.sub a b) s c o :=
  ⟨rx_nd_cg a ha s c o (fun j h1 h2 => rx_un (by have := tr_sz_pos b; omega)) g, rx_nd_cg b hb _ _ _ (fun j h1 h2 => rx_un (by omega)) g', pk_us, pk_us, pk_us⟩
theorem rx_mk5 {nK nV nZ nS : Nat → Int32} {a b : tr_T} (ha : tr_ok a) (hb : tr_ok b) {s c o : Nat} (g : rx_nd nK nV nZ nS a s c o) (g' : rx_nd nK nV nZ nS b (s + tr_sz a) (c + tr_nc a) (o + tr_cc a)) :
    rx_nd (upd nK (s + (tr_sz a + tr_sz b)) (nI 5)) (upd nV (s + (tr_sz a + tr_sz b)) (nI (o + tr_cc a + tr_cc b))) (upd nZ (s + (tr_sz a + tr_sz b)) (nI (tr_sz a + tr_sz b + 1))) (upd nS (s + (tr_sz a + tr_sz b)) (nI c)) (.mul a b) s c o :=
  ⟨rx_nd_cg a ha s c o (fun j h1 h2 => rx_un (by have := tr_sz_pos b; omega)) g, rx_nd_cg b hb _ _ _ (fun j h1 h2 => rx_un (by omega)) g', pk_us, pk_us, pk_us, pk_us⟩
theorem rx_mk0 {nK nV nZ nS : Nat → Int32} {s c o n : Nat} : rx_nd (upd nK s (nI 0)) (upd nV s (nI n)) (upd nZ s (nI 1)) (upd nS s (nI c)) (.var n) s c o := ⟨pk_us, pk_us, pk_us, pk_us⟩
/-! Y's arrays -/
def ry_nd (bk ba : Nat → Int32) : tr_T → Nat → Prop
  | .var n, s => bk s = nI 0 ∧ ba s = nI n
  | .neg a, s => ry_nd bk ba a s ∧ bk (s + tr_sz a) = nI 1
  | .pow a k, s => ry_nd bk ba a s ∧ bk (s + tr_sz a) = nI 2 ∧ ba (s + tr_sz a) = nI k
  | .add a b, s => ry_nd bk ba a s ∧ ry_nd bk ba b (s + tr_sz a) ∧ bk (s + (tr_sz a + tr_sz b)) = nI 3
  | .sub a b, s => ry_nd bk ba a s ∧ ry_nd bk ba b (s + tr_sz a) ∧ bk (s + (tr_sz a + tr_sz b)) = nI 4
  | .mul a b, s => ry_nd bk ba a s ∧ ry_nd bk ba b (s + tr_sz a) ∧ bk (s + (tr_sz a + tr_sz b)) = nI 5
  | _, _ => False
theorem ry_nd_cg {bk ba bk' ba' : Nat → Int32} {e : Nat} : ∀ t, tr_ok t → ∀ s, (∀ j, s ≤ j → j < s + tr_sz t → bk' (j + e) = bk j ∧ ba' (j + e) = ba j) → ry_nd bk ba t s → ry_nd bk' ba' t (s + e) := by
  refine tr_ind ?_ ?_ ?_ ?_ ?_ ?_
  · intro n s h g
    obtain ⟨e1, e2⟩ := h s (Nat.le_refl _) (by simp only [tr_sz]; omega)
    simp only [ry_nd] at g ⊢
    rw [e1, e2]; exact g
  · intro a _ ih s h g
    simp only [tr_sz] at h
    obtain ⟨e1, e2⟩ := h (s + tr_sz a) (by omega) (by omega)
    simp only [ry_nd] at g ⊢
    rw [show s + e + tr_sz a = s + tr_sz a + e by omega, e1]
    exact ⟨ih s (fun j h1 h2 => h j h1 (by omega)) g.1, g.2⟩
  · intro a k _ _ ih s h g
    simp only [tr_sz] at h
    obtain ⟨e1, e2⟩ := h (s + tr_sz a) (by omega) (by omega)
    simp only [ry_nd] at g ⊢
    rw [show s + e + tr_sz a = s + tr_sz a + e by omega, e1, e2]
    exact ⟨ih s (fun j h1 h2 => h j h1 (by omega)) g.1, g.2⟩
  all_goals
    intro a b _ _ iha ihb s h g
    simp only [tr_sz] at h
    obtain ⟨e1, e2⟩ := h (s + (tr_sz a + tr_sz b)) (by omega) (by omega)
    simp only [ry_nd] at g ⊢
    rw [show s + e + (tr_sz a + tr_sz b) = s + (tr_sz a + tr_sz b) + e by omega, show s + e + tr_sz a = s + tr_sz a + e by omega, e1]
    exact ⟨iha s (fun j h1 h2 => h j h1 (by omega)) g.1, ihb _ (fun j h1 h2 => h j (by omega) (by omega)) g.2.1, g.2.2⟩
theorem ry_nd_c0 {bk ba bk' ba' : Nat → Int32} {t : tr_T} (ht : tr_ok t) {s : Nat} (h : ∀ j, s ≤ j → j < s + tr_sz t → bk' j = bk j ∧ ba' j = ba j) (g : ry_nd bk ba t s) : ry_nd bk' ba' t s :=
  ry_nd_cg (e := 0) t ht s h g
def ry_ds (bk ba : Nat → Int32) : ds_D → Prop
  | [] => True
  | p :: r => ry_ds bk ba r ∧ ry_nd bk ba p.1 (ds_sz r)
theorem ry_ds_cg {bk ba bk' ba' : Nat → Int32} : ∀ (r : ds_D), ds_ok r → (∀ j, j < ds_sz r → bk' j = bk j ∧ ba' j = ba j) → ry_ds bk ba r → ry_ds bk' ba' r
  | [], _, _, _ => trivial
  | p :: r, hk, h, g => by
    simp only [ds_sz] at h
    exact ⟨ry_ds_cg r hk.1 (fun j q => h j (by omega)) g.1, ry_nd_c0 hk.2.1 (fun j q1 q2 => h j (by omega)) g.2⟩
end
section
/-! X: what the feeding calls do -/
def ds_in (N C H : Nat) (χ : Nat → Nat) (ds : ds_D) : Prop :=
  8 ≤ N ∧ N ≤ 40 ∧ C ≤ 64 ∧ H ≤ 6 ∧ ds_sz ds ≤ N ∧ ds_nc ds ≤ C ∧ ds_cc ds ≤ H ∧ ds_ok ds ∧ ∀ i, 32 ≤ χ i ∧ χ i ≤ 126
def rx_R (N C H : Nat) (χ : Nat → Nat) (ds : ds_D) (nl cl hl doc nod chr cho mea : Int32) (dN dC dH dM nK nV nZ nS pl mH mW mL mR : Nat → Int32) : Prop :=
  nl = nI N ∧ cl = nI C ∧ hl = nI H ∧ doc = nI ds.length ∧ nod = nI (ds_sz ds) ∧ chr = nI (ds_nc ds) ∧ cho = nI (ds_cc ds) ∧ mea = nI (ds_mo ds) ∧
  rx_ds dN dC dH dM nK nV nZ nS mH mW mL mR ds ∧ ∀ i, i < ds_nc ds → pl i = nI (χ i)
/-- all that a last node needs: the rest r, the new document t with the measures Q, its root at s -/
def xn_H (N C H : Nat) (χ : Nat → Nat) (r : ds_D) (t : tr_T) (Q : List mt_M) (s : Nat) (kd vl : Int32) (nl cl hl doc nod chr cho : Int32) (dN dC dH dM nK nV nZ nS pl mH mW mL mR : Nat → Int32) : Prop :=
  (nl = nI N ∧ cl = nI C ∧ hl = nI H ∧ doc = nI (r.length + 1) ∧ nod = nI s ∧ chr = nI (ds_nc r + tr_nc t) ∧ cho = nI (ds_cc r + tr_cc t)) ∧
  ds_ok ((t, Q) :: r) ∧ s + 1 = ds_sz r + tr_sz t ∧ s + 1 ≤ 40 ∧ ds_cc r + tr_cc t ≤ 6 ∧ rx_ds dN dC dH dM nK nV nZ nS mH mW mL mR r ∧
  rx_nd (upd nK s kd) (upd nV s vl) (upd nZ s (nI (tr_sz t))) (upd nS s (nI (ds_nc r))) t (ds_sz r) (ds_nc r) (ds_cc r) ∧
  ∀ i, i < ds_nc r + tr_nc t → pl i = nI (χ i)
theorem mt_bd_of {t : tr_T} (ht : tr_ok t) {o : Nat} (β : Nat → Bool) (h1 : tr_sz t ≤ 40) (h2 : tr_nc t ≤ 64) (h3 : o + tr_cc t ≤ 6) : mt_bd (tr_ms β t o) := by
  have a := tr_ms_bd β t ht o
  have b := tr_rk_lt β t ht o
  have : 2 ^ (o + tr_cc t) ≤ 2 ^ 6 := Nat.pow_le_pow_right (by omega) h3
  unfold mt_bd
  omega
theorem fo_room_app : ∀ (A L B : List mt_M), fo_room L (A ++ B) → fo_room L A ∧ fo_room (A.foldl fo_off L) B
  | [], L, B, h => ⟨trivial, h⟩
  | m :: A, L, B, h => by
    obtain ⟨h1, h2⟩ := fo_room_app A (fo_off L m) B h.2
    exact ⟨⟨h.1, h1⟩, h2⟩
section
variable {kT kF kN kA kB kC sH sN sE nl cl hl doc nod chr cho mea sc ph pw rc dep : Int32} {dN dC dH dM nK nV nZ nS pl mH mW mL mR cH cW cL cR lE rN rR rC st tN tB tS : Nat → Int32}
theorem xf_fin {post : Int32 → SX → Prop} {D : Nat} (hD : D ≤ 40) (K : post 0 (kT, kF, kN, kA, kB, kC, sH, sN, sE, nl, cl, hl, nI D, nod, chr, cho, mea, sc, 0, pw, rc, dep, upd dN D nod, upd dC D chr, upd dH D cho, upd dM D mea, nK, nV, nZ, nS, pl, mH, mW, mL, mR, cH, cW, cL, cR, lE, rN, rR, rC, st, tN, tB, tS)) : wpX_finish post (kT, kF, kN, kA, kB, kC, sH, sN, sE, nl, cl, hl, nI D, nod, chr, cho, mea, sc, ph, pw, rc, dep, dN, dC, dH, dM, nK, nV, nZ, nS, pl, mH, mW, mL, mR, cH, cW, cL, cR, lE, rN, rR, rC, st, tN, tB, tS) := by
  have c : (nI D).toNatClampNeg = D := nI_clamp (by omega)
  have hin : vp_in (nI D) 41 := vp_in_nI (by omega) (by omega)
  exact And.intro hin <| nm_r (e' := upd dN D nod) (by rw [c]) <| And.intro hin <| nm_r (e' := upd dC D chr) (by rw [c]) <| And.intro hin <| nm_r (e' := upd dH D cho) (by rw [c]) <| And.intro hin <| nm_r (e' := upd dM D mea) (by rw [c]) K
theorem xm_loop {post : Int32 → SX → Prop} {D m0 : Nat} {Q : List mt_M} (hD : D ≤ 40) (hQ : Q.length ≤ 64) (hm : m0 + Q.length ≤ 128) (hs : ml_at cH cW cL cR 0 Q) {mH0 mW0 mL0 mR0 : Nat → Int32}
    (K : ∀ mH mW mL mR : Nat → Int32, ml_at mH mW mL mR m0 Q → (∀ j, j < m0 → mH j = mH0 j ∧ mW j = mW0 j ∧ mL j = mL0 j ∧ mR j = mR0 j) →
      post 0 (kT, kF, kN, kA, kB, kC, sH, sN, sE, nl, cl, hl, nI D, nod, chr, cho, nI (m0 + Q.length), nI Q.length, 0, pw, rc, dep, upd dN D nod, upd dC D chr, upd dH D cho, upd dM D (nI (m0 + Q.length)), nK, nV, nZ, nS, pl, mH, mW, mL, mR, cH, cW, cL, cR, lE, rN, rR, rC, st, tN, tB, tS)) :
    ∀ (R P : List mt_M) (n : Nat) (mH mW mL mR : Nat → Int32), P ++ R = Q → ml_at mH mW mL mR m0 P → (∀ j, j < m0 → mH j = mH0 j ∧ mW j = mW0 j ∧ mL j = mL0 j ∧ mR j = mR0 j) → R.length < n →
      wX_finishNode_87 post kT kF kN kA kB kC sH sN sE nl cl hl (nI D) nod chr cho (nI m0) (nI Q.length) ph pw rc dep n (nI P.length) dN dC dH dM nK nV nZ nS pl mH mW mL mR cH cW cL cR lE rN rR rC st tN tB tS := by
  intro R
  induction R with
  | nil =>
    intro P n mH mW mL mR hPR hP hf hn
    obtain ⟨n, rfl⟩ : ∃ k, n = k + 1 := ⟨n - 1, by simp only [List.length_nil] at hn; omega⟩
    rw [List.append_nil] at hPR
    subst hPR
    exact br_t (nI_le (Nat.le_refl _) (by omega)) <| nm_r (nI_add m0 P.length) <| xf_fin hD (K mH mW mL mR hP hf)
  | cons r R ih =>
    intro P n mH mW mL mR hPR hP hf hn
    simp only [List.length_cons] at hn
    obtain ⟨n, rfl⟩ : ∃ k, n = k + 1 := ⟨n - 1, by omega⟩
    have hlen : Q.length = P.length + (R.length + 1) := by rw [← hPR, List.length_append, List.length_cons]
    have hR := ((ml_app P (r :: R) 0).mp (by rw [hPR]; exact hs)).2
    rw [Nat.zero_add] at hR
    obtain ⟨⟨e1, e2, e3, e4, hb⟩, _⟩ := hR
    have ci : (nI P.length).toNatClampNeg = P.length := nI_clamp (by omega)
    have cm : (nI m0 + nI P.length).toNatClampNeg = m0 + P.length := by rw [nI_add]; exact nI_clamp (by omega)
    have hin : vp_in (nI P.length) 64 := vp_in_nI (by omega) (by omega)
    have hmn : vp_in (nI m0 + nI P.length) 128 := by rw [nI_add]; exact vp_in_nI (by omega) (by omega)
    have q : ml_at (upd mH (m0 + P.length) (nI r.1)) (upd mW (m0 + P.length) (nI r.2.1)) (upd mL (m0 + P.length) (nI r.2.2.1)) (upd mR (m0 + P.length) (nI r.2.2.2)) m0 (P ++ [r]) :=
      ml_snoc (ml_upd (by omega) hP) ⟨pk_us, pk_us, pk_us, pk_us, hb⟩
    exact br_f (nI_ge (by omega) (by omega)) <|
      And.intro hin <| And.intro hmn <| nm_r (e' := upd mH (m0 + P.length) (nI r.1)) (by rw [cm, ci, e1]) <|
      And.intro hin <| And.intro hmn <| nm_r (e' := upd mW (m0 + P.length) (nI r.2.1)) (by rw [cm, ci, e2]) <|
      And.intro hin <| And.intro hmn <| nm_r (e' := upd mL (m0 + P.length) (nI r.2.2.1)) (by rw [cm, ci, e3]) <|
      And.intro hin <| And.intro hmn <| nm_r (e' := upd mR (m0 + P.length) (nI r.2.2.2)) (by rw [cm, ci, e4]) <|
      nm_r (e' := nI (P ++ [r]).length) (by rw [nI_1, List.length_append]; rfl) <|
        ih (P ++ [r]) n _ _ _ _ (by rw [← hPR, List.append_assoc]; rfl) q
          (fun j hj => by
            obtain ⟨f1, f2, f3, f4⟩ := hf j hj
            exact ⟨(pk_un (by omega)).trans f1, (pk_un (by omega)).trans f2, (pk_un (by omega)).trans f3, (pk_un (by omega)).trans f4⟩) (by omega)
theorem xn_fin {post : Int32 → SX → Prop} {N C H : Nat} {χ : Nat → Nat} {r : ds_D} {t : tr_T} {Q : List mt_M} {s : Nat} {kd vl : Int32} (h : xn_H N C H χ r t Q s kd vl nl cl hl doc nod chr cho dN dC dH dM nK nV nZ nS pl mH mW mL mR) (h5 : sc = nI Q.length) (hq : ml_at cH cW cL cR 0 Q)
    (K : ∀ (doc nod chr cho mea sc : Int32) (dN dC dH dM nK nV nZ nS pl mH mW mL mR cH cW cL cR : Nat → Int32), ds_ok ((t, Q) :: r) → rx_R N C H χ ((t, Q) :: r) nl cl hl doc nod chr cho mea dN dC dH dM nK nV nZ nS pl mH mW mL mR → post 0 (kT, kF, kN, kA, kB, kC, sH, sN, sE, nl, cl, hl, doc, nod, chr, cho, mea, sc, 0, pw, rc, dep, dN, dC, dH, dM, nK, nV, nZ, nS, pl, mH, mW, mL, mR, cH, cW, cL, cR, lE, rN, rR, rC, st, tN, tB, tS)) : wpX_finishNode post (kT, kF, kN, kA, kB, kC, sH, sN, sE, nl, cl, hl, doc, nod, chr, cho, mea, sc, ph, pw, rc, dep, dN, dC, dH, dM, nK, nV, nZ, nS, pl, mH, mW, mL, mR, cH, cW, cL, cR, lE, rN, rR, rC, st, tN, tB, tS) kd vl := by
  obtain ⟨⟨rfl, rfl, rfl, rfl, rfl, rfl, rfl⟩, hok, hs, hs40, hcc, g, hnd, hpl⟩ := h
  subst h5
  have hr := ds_len_sz r
  have ht := tr_sz_pos t
  have hQ : Q.length ≤ 64 := by
    have : Q.length ≤ 2 ^ tr_cc t := fo_FR_len hok.2.1 hok.2.2
    have : 2 ^ tr_cc t ≤ 2 ^ 6 := Nat.pow_le_pow_right (by omega) (by omega)
    omega
  have hmo := ds_mo_le6 hok (by simp only [ds_sz]; omega) (by simp only [ds_cc]; omega)
  simp only [ds_mo] at hmo
  obtain ⟨e1, e2, e3, e4⟩ := rx_ds_end g
  have p1 : nI (r.length + 1) - 1 = nI r.length := nI_pred _
  have c1 : (nI r.length).toNatClampNeg = r.length := nI_clamp (by omega)
  have hi1 : vp_in (nI r.length) 41 := vp_in_nI (by omega) (by omega)
  have hin : vp_in (nI s) 40 := vp_in_nI (by omega) (by omega)
  have cs : (nI s).toNatClampNeg = s := nI_clamp (by omega)
  exact nm_r p1 <| And.intro hin <| nm_r (e' := upd nK s kd) (by rw [cs]) <| And.intro hin <| nm_r (e' := upd nV s vl) (by rw [cs]) <|
    And.intro hi1 <| And.intro hin <| nm_r (e' := upd nZ s (nI (tr_sz t))) (by rw [cs, c1, e1, nI_1, pk_sub (by omega)]; exact congrArg (fun z => upd nZ s (nI z)) (by omega)) <|
    And.intro hi1 <| And.intro hin <| nm_r (e' := upd nS s (nI (ds_nc r))) (by rw [cs, c1, e2]) <| nm_r (nI_1 s) <| And.intro hi1 <| nm_r (e' := nI (ds_mo r)) (by rw [c1, e4]) <|
    Exists.intro (Q.length + 1) <| xm_loop (D := r.length + 1) (by omega) hQ (by omega) hq
      (fun a b c d hm hf => K _ _ _ _ _ _ _ _ _ _ _ _ _ _ _ _ _ _ _ _ _ _ _ hok
        ⟨rfl, rfl, rfl, rfl, by rw [hs]; rfl, rfl, rfl, rfl, rx_push hok.1 g (fun j hj => rx_un (by omega)) hf hnd hm (by rw [hs]) rfl rfl rfl, hpl⟩)
      Q [] _ mH mW mL mR (List.nil_append _) trivial (fun j _ => ⟨rfl, rfl, rfl, rfl⟩) (Nat.lt_succ_self _)
/-! the loops that offer -/
theorem xl_flush {post : Int32 → SX → Prop} {N C H : Nat} {χ : Nat → Nat} {r : ds_D} {t : tr_T} {Q : List mt_M} {s : Nat} (h : xn_H N C H χ r t Q s (nI 1) (nI 0) nl cl hl doc nod chr cho dN dC dH dM nK nV nZ nS pl mH mW mL mR)
    (K : ∀ (doc nod chr cho mea sc : Int32) (dN dC dH dM nK nV nZ nS pl mH mW mL mR cH cW cL cR : Nat → Int32), ds_ok ((t, Q) :: r) → rx_R N C H χ ((t, Q) :: r) nl cl hl doc nod chr cho mea dN dC dH dM nK nV nZ nS pl mH mW mL mR → post 0 (kT, kF, kN, kA, kB, kC, sH, sN, sE, nl, cl, hl, doc, nod, chr, cho, mea, sc, 0, pw, rc, dep, dN, dC, dH, dM, nK, nV, nZ, nS, pl, mH, mW, mL, mR, cH, cW, cL, cR, lE, rN, rR, rC, st, tN, tB, tS)) {e : Nat} (he : e ≤ 128) :
    ∀ (R : List mt_M) (i n : Nat) (L : List mt_M) (sc : Int32) (cH cW cL cR : Nat → Int32), ml_at mH mW mL mR i R → i + R.length = e → R.length < n → sc = nI L.length → ml_at cH cW cL cR 0 L →
      fo_room L (R.map mt_fl) → (∀ m, m ∈ R.map mt_fl → mt_bd m) → (R.map mt_fl).foldl fo_off L = Q → wX_flush_39 post (nI e) n (nI i) kT kF kN kA kB kC sH sN sE nl cl hl doc nod chr cho mea sc ph pw rc dep dN dC dH dM nK nV nZ nS pl mH mW mL mR cH cW cL cR lE rN rR rC st tN tB tS := by
  intro R
  induction R with
  | nil =>
    intro i n L sc cH cW cL cR _ hi hn hsc hL _ _ hQ
    obtain ⟨n, rfl⟩ : ∃ k, n = k + 1 := ⟨n - 1, by simp only [List.length_nil] at hn; omega⟩
    simp only [List.length_nil] at hi
    have hQ : L = Q := hQ
    subst hQ
    exact br_t (nI_le (by omega) (by omega)) (xn_fin h hsc hL K)
  | cons x R ih =>
    intro i n L sc cH cW cL cR hR hi hn hsc hL hroom hb hQ
    simp only [List.length_cons] at hn hi
    obtain ⟨n, rfl⟩ : ∃ k, n = k + 1 := ⟨n - 1, by omega⟩
    obtain ⟨⟨e1, e2, e3, e4, hbx⟩, hR⟩ := hR
    have ci : (nI i).toNatClampNeg = i := nI_clamp (by omega)
    have hin : vp_in (nI i) 128 := vp_in_nI (by omega) (by omega)
    exact br_f (nI_ge (by omega) (by omega)) <| And.intro hin <| And.intro hin <| And.intro hin <|
      xo_all (m := mt_fl x) (hb _ (List.mem_cons_self)) hroom.1 hL (by rw [ci, e1]; exact nI_1 _) (by rw [ci, e2]; rfl) rfl (by rw [ci, e4]; rfl) hsc fun a b c d hm =>
        nm_r (nI_1 i) <| ih (i + 1) n (fo_off L (mt_fl x)) _ a b c d hR (by omega) (by omega) rfl hm hroom.2 (fun m hm => hb m (List.mem_cons_of_mem _ hm)) hQ
theorem xl_nest {post : Int32 → SX → Prop} {N C H : Nat} {χ : Nat → Nat} {r : ds_D} {t : tr_T} {Q : List mt_M} {s k : Nat} (h : xn_H N C H χ r t Q s (nI 2) (nI k) nl cl hl doc nod chr cho dN dC dH dM nK nV nZ nS pl mH mW mL mR)
    (K : ∀ (doc nod chr cho mea sc : Int32) (dN dC dH dM nK nV nZ nS pl mH mW mL mR cH cW cL cR : Nat → Int32), ds_ok ((t, Q) :: r) → rx_R N C H χ ((t, Q) :: r) nl cl hl doc nod chr cho mea dN dC dH dM nK nV nZ nS pl mH mW mL mR → post 0 (kT, kF, kN, kA, kB, kC, sH, sN, sE, nl, cl, hl, doc, nod, chr, cho, mea, sc, 0, pw, rc, dep, dN, dC, dH, dM, nK, nV, nZ, nS, pl, mH, mW, mL, mR, cH, cW, cL, cR, lE, rN, rR, rC, st, tN, tB, tS)) {e : Nat} (he : e ≤ 128) :
    ∀ (R : List mt_M) (i n : Nat) (L : List mt_M) (sc : Int32) (cH cW cL cR : Nat → Int32), ml_at mH mW mL mR i R → i + R.length = e → R.length < n → sc = nI L.length → ml_at cH cW cL cR 0 L →
      fo_room L (R.map (mt_ne k)) → (∀ m, m ∈ R.map (mt_ne k) → mt_bd m) → (R.map (mt_ne k)).foldl fo_off L = Q → wX_nest_53 post (nI k) (nI e) n (nI i) kT kF kN kA kB kC sH sN sE nl cl hl doc nod chr cho mea sc ph pw rc dep dN dC dH dM nK nV nZ nS pl mH mW mL mR cH cW cL cR lE rN rR rC st tN tB tS := by
  intro R
  induction R with
  | nil =>
    intro i n L sc cH cW cL cR _ hi hn hsc hL _ _ hQ
    obtain ⟨n, rfl⟩ : ∃ k, n = k + 1 := ⟨n - 1, by simp only [List.length_nil] at hn; omega⟩
    simp only [List.length_nil] at hi
    have hQ : L = Q := hQ
    subst hQ
    exact br_t (nI_le (by omega) (by omega)) (xn_fin h hsc hL K)
  | cons x R ih =>
    intro i n L sc cH cW cL cR hR hi hn hsc hL hroom hb hQ
    simp only [List.length_cons] at hn hi
    obtain ⟨n, rfl⟩ : ∃ k, n = k + 1 := ⟨n - 1, by omega⟩
    obtain ⟨⟨e1, e2, e3, e4, hbx⟩, hR⟩ := hR
    have ci : (nI i).toNatClampNeg = i := nI_clamp (by omega)
    have hin : vp_in (nI i) 128 := vp_in_nI (by omega) (by omega)
    exact br_f (nI_ge (by omega) (by omega)) <| And.intro hin <| And.intro hin <| And.intro hin <| And.intro hin <|
      xo_all (m := mt_ne k x) (hb _ (List.mem_cons_self)) hroom.1 hL (by rw [ci, e1]; rfl) (by rw [ci, e2]; exact nI_add _ _) (by rw [ci, e3]; exact nI_add _ _) (by rw [ci, e4]; rfl) hsc fun a b c d hm =>
        nm_r (nI_1 i) <| ih (i + 1) n (fo_off L (mt_ne k x)) _ a b c d hR (by omega) (by omega) rfl hm hroom.2 (fun m hm => hb m (List.mem_cons_of_mem _ hm)) hQ
theorem xl_all {post : SX → Prop} {b : Nat} {e : Nat} (he : e ≤ 128) {Q : List mt_M} (K : ∀ (sc : Int32) (cH cW cL cR : Nat → Int32), sc = nI Q.length → ml_at cH cW cL cR 0 Q → post (kT, kF, kN, kA, kB, kC, sH, sN, sE, nl, cl, hl, doc, nod, chr, cho, mea, sc, ph, pw, rc, dep, dN, dC, dH, dM, nK, nV, nZ, nS, pl, mH, mW, mL, mR, cH, cW, cL, cR, lE, rN, rR, rC, st, tN, tB, tS)) :
    ∀ (R : List mt_M) (i n : Nat) (L : List mt_M) (sc : Int32) (cH cW cL cR : Nat → Int32), ml_at mH mW mL mR i R → i + R.length = e → R.length < n → sc = nI L.length → ml_at cH cW cL cR 0 L →
      fo_room L (R.map (mt_bt b)) → (∀ m, m ∈ R.map (mt_bt b) → mt_bd m) → (R.map (mt_bt b)).foldl fo_off L = Q → wX_offerAll_17 post (nI b) (nI e) n (nI i) kT kF kN kA kB kC sH sN sE nl cl hl doc nod chr cho mea sc ph pw rc dep dN dC dH dM nK nV nZ nS pl mH mW mL mR cH cW cL cR lE rN rR rC st tN tB tS := by
  intro R
  induction R with
  | nil =>
    intro i n L sc cH cW cL cR _ hi hn hsc hL _ _ hQ
    obtain ⟨n, rfl⟩ : ∃ k, n = k + 1 := ⟨n - 1, by simp only [List.length_nil] at hn; omega⟩
    simp only [List.length_nil] at hi
    have hQ : L = Q := hQ
    subst hQ
    exact br_t (nI_le (by omega) (by omega)) (K sc cH cW cL cR hsc hL)
  | cons x R ih =>
    intro i n L sc cH cW cL cR hR hi hn hsc hL hroom hb hQ
    simp only [List.length_cons] at hn hi
    obtain ⟨n, rfl⟩ : ∃ k, n = k + 1 := ⟨n - 1, by omega⟩
    obtain ⟨⟨e1, e2, e3, e4, hbx⟩, hR⟩ := hR
    have ci : (nI i).toNatClampNeg = i := nI_clamp (by omega)
    have hin : vp_in (nI i) 128 := vp_in_nI (by omega) (by omega)
    exact br_f (nI_ge (by omega) (by omega)) <| And.intro hin <| And.intro hin <| And.intro hin <| And.intro hin <|
      xo_all (m := mt_bt b x) (hb _ (List.mem_cons_self)) hroom.1 hL (by rw [ci, e1]; rfl) (by rw [ci, e2]; rfl) (by rw [ci, e3]; rfl) (by rw [ci, e4]; exact nI_add _ _) hsc fun a b' c d hm =>
        nm_r (nI_1 i) <| ih (i + 1) n (fo_off L (mt_bt b x)) _ a b' c d hR (by omega) (by omega) rfl hm hroom.2 (fun m hm => hb m (List.mem_cons_of_mem _ hm)) hQ
theorem xo_p80 {post : SX → Prop} {i j : Nat} {x y m : mt_M} {a1 a2 a3 : Int32} {L : List mt_M} (hi : i < 128) (hj : j < 128) (hm : mt_bd m) (hL : L.length + 1 ≤ 64) (hs : ml_at cH cW cL cR 0 L) (h5 : sc = nI L.length)
    (hx : mR i = nI x.2.2.2) (hy : mR j = nI y.2.2.2) (h1 : a1 = nI m.1) (h2 : a2 = nI m.2.1) (h3 : a3 = nI m.2.2.1) (h4 : m.2.2.2 = x.2.2.2 + y.2.2.2)
    (K : ∀ (sc : Int32) (cH cW cL cR : Nat → Int32), sc = nI (fo_off L m).length → ml_at cH cW cL cR 0 (fo_off L m) → post (kT, kF, kN, kA, kB, kC, sH, sN, sE, nl, cl, hl, doc, nod, chr, cho, mea, sc, ph, pw, rc, dep, dN, dC, dH, dM, nK, nV, nZ, nS, pl, mH, mW, mL, mR, cH, cW, cL, cR, lE, rN, rR, rC, st, tN, tB, tS)) : wX_offerPair_80 post (nI i) (nI j) a1 a2 a3 kT kF kN kA kB kC sH sN sE nl cl hl doc nod chr cho mea sc ph pw rc dep dN dC dH dM nK nV nZ nS pl mH mW mL mR cH cW cL cR lE rN rR rC st tN tB tS := by
  have ci : (nI i).toNatClampNeg = i := nI_clamp (by omega)
  have cj : (nI j).toNatClampNeg = j := nI_clamp (by omega)
  exact And.intro (vp_in_nI hi (by omega)) <| And.intro (vp_in_nI hj (by omega)) <|
    xo_all hm hL hs h1 h2 h3 (by rw [ci, cj, hx, hy, h4]; exact nI_add _ _) h5 fun a b c d h => K _ a b c d rfl h
theorem xo_p61 {post : SX → Prop} {i j w : Nat} {x y m : mt_M} {a1 a3 : Int32} {L : List mt_M} (hi : i < 128) (hj : j < 128) (hm : mt_bd m) (hL : L.length + 1 ≤ 64) (hs : ml_at cH cW cL cR 0 L) (h5 : sc = nI L.length)
    (hx : mR i = nI x.2.2.2) (hy : mR j = nI y.2.2.2) (hw : mW i = nI x.2.1) (h1 : a1 = nI m.1) (h2 : m.2.1 = max x.2.1 w) (h3 : a3 = nI m.2.2.1) (h4 : m.2.2.2 = x.2.2.2 + y.2.2.2)
    (K : ∀ (sc : Int32) (cH cW cL cR : Nat → Int32), sc = nI (fo_off L m).length → ml_at cH cW cL cR 0 (fo_off L m) → post (kT, kF, kN, kA, kB, kC, sH, sN, sE, nl, cl, hl, doc, nod, chr, cho, mea, sc, ph, pw, rc, dep, dN, dC, dH, dM, nK, nV, nZ, nS, pl, mH, mW, mL, mR, cH, cW, cL, cR, lE, rN, rR, rC, st, tN, tB, tS)) : wX_offerPair_61 post (nI i) (nI j) a1 (nI w) a3 kT kF kN kA kB kC sH sN sE nl cl hl doc nod chr cho mea sc ph pw rc dep dN dC dH dM nK nV nZ nS pl mH mW mL mR cH cW cL cR lE rN rR rC st tN tB tS := by
  have ci : (nI i).toNatClampNeg = i := nI_clamp (by omega)
  have hin : vp_in (nI i) 128 := vp_in_nI hi (by omega)
  have hb := hm
  unfold mt_bd at hb
  have q : mW (nI i).toNatClampNeg ≤ nI w ↔ x.2.1 ≤ w := by rw [ci, hw]; exact nI_leI (by omega) (by omega)
  exact And.intro hin <| br_c (fun c => xo_p80 hi hj hm hL hs h5 hx hy h1 (by rw [q] at c; rw [h2]; exact congrArg nI (by omega)) h3 h4 K)
    fun c => And.intro hin <| nm_r (e' := nI x.2.1) (by rw [ci, hw]) <| xo_p80 hi hj hm hL hs h5 hx hy h1 (by rw [q] at c; rw [h2]; exact congrArg nI (by omega)) h3 h4 K
theorem xo_be {post : SX → Prop} {i j : Nat} {x y : mt_M} {L : List mt_M} (hi : i < 128) (hj : j < 128) (hm : mt_bd (mt_be x y)) (hL : L.length + 1 ≤ 64) (hs : ml_at cH cW cL cR 0 L) (h5 : sc = nI L.length)
    (hx : ml_e mH mW mL mR i x) (hy : ml_e mH mW mL mR j y)
    (K : ∀ (sc : Int32) (cH cW cL cR : Nat → Int32), sc = nI (fo_off L (mt_be x y)).length → ml_at cH cW cL cR 0 (fo_off L (mt_be x y)) → post (kT, kF, kN, kA, kB, kC, sH, sN, sE, nl, cl, hl, doc, nod, chr, cho, mea, sc, ph, pw, rc, dep, dN, dC, dH, dM, nK, nV, nZ, nS, pl, mH, mW, mL, mR, cH, cW, cL, cR, lE, rN, rR, rC, st, tN, tB, tS)) : wpX_offerPair post (kT, kF, kN, kA, kB, kC, sH, sN, sE, nl, cl, hl, doc, nod, chr, cho, mea, sc, ph, pw, rc, dep, dN, dC, dH, dM, nK, nV, nZ, nS, pl, mH, mW, mL, mR, cH, cW, cL, cR, lE, rN, rR, rC, st, tN, tB, tS) (nI 4) (nI i) (nI j) := by
  have ci : (nI i).toNatClampNeg = i := nI_clamp (by omega)
  have cj : (nI j).toNatClampNeg = j := nI_clamp (by omega)
  have hin : vp_in (nI i) 128 := vp_in_nI hi (by omega)
  have hjn : vp_in (nI j) 128 := vp_in_nI hj (by omega)
  obtain ⟨x1, x2, x3, x4, hbx⟩ := hx
  obtain ⟨y1, y2, y3, y4, hby⟩ := hy
  unfold mt_bd at hbx hby
  exact And.intro hin <| And.intro hjn <| nm_r (e' := nI (x.1 + y.1)) (by rw [ci, cj, x1, y1, nI_add]) <| And.intro hjn <| nm_r (e' := nI y.2.1) (by rw [cj, y2]) <| And.intro hjn <| nm_r (e' := nI y.2.2.1) (by rw [cj, y3]) <|
    br_t (by decide) <| nm_r (e' := nI (x.1 + y.1 - 1)) (by rw [show x.1 + y.1 = (x.1 + y.1 - 1) + 1 by omega, pk_m1]; rfl) <| And.intro hin <| nm_r (e' := nI (y.2.1 + x.2.2.1)) (by rw [ci, x3, nI_add]) <| And.intro hin <| nm_r (e' := nI (y.2.2.1 + x.2.2.1)) (by rw [ci, x3, nI_add]) <|
    xo_p61 (m := mt_be x y) hi hj hm hL hs h5 x4 y4 x2 rfl rfl rfl rfl K
theorem xo_ab {post : SX → Prop} {i j : Nat} {x y : mt_M} {L : List mt_M} (hi : i < 128) (hj : j < 128) (hm : mt_bd (mt_ab x y)) (hL : L.length + 1 ≤ 64) (hs : ml_at cH cW cL cR 0 L) (h5 : sc = nI L.length)
    (hx : ml_e mH mW mL mR i x) (hy : ml_e mH mW mL mR j y)
    (K : ∀ (sc : Int32) (cH cW cL cR : Nat → Int32), sc = nI (fo_off L (mt_ab x y)).length → ml_at cH cW cL cR 0 (fo_off L (mt_ab x y)) → post (kT, kF, kN, kA, kB, kC, sH, sN, sE, nl, cl, hl, doc, nod, chr, cho, mea, sc, ph, pw, rc, dep, dN, dC, dH, dM, nK, nV, nZ, nS, pl, mH, mW, mL, mR, cH, cW, cL, cR, lE, rN, rR, rC, st, tN, tB, tS)) : wpX_offerPair post (kT, kF, kN, kA, kB, kC, sH, sN, sE, nl, cl, hl, doc, nod, chr, cho, mea, sc, ph, pw, rc, dep, dN, dC, dH, dM, nK, nV, nZ, nS, pl, mH, mW, mL, mR, cH, cW, cL, cR, lE, rN, rR, rC, st, tN, tB, tS) (nI 3) (nI i) (nI j) := by
  have ci : (nI i).toNatClampNeg = i := nI_clamp (by omega)
  have cj : (nI j).toNatClampNeg = j := nI_clamp (by omega)
  have hin : vp_in (nI i) 128 := vp_in_nI hi (by omega)
  have hjn : vp_in (nI j) 128 := vp_in_nI hj (by omega)
  obtain ⟨x1, x2, x3, x4, hbx⟩ := hx
  obtain ⟨y1, y2, y3, y4, hby⟩ := hy
  unfold mt_bd at hbx hby
  exact And.intro hin <| And.intro hjn <| nm_r (e' := nI (x.1 + y.1)) (by rw [ci, cj, x1, y1, nI_add]) <| And.intro hjn <| nm_r (e' := nI y.2.1) (by rw [cj, y2]) <| And.intro hjn <| nm_r (e' := nI y.2.2.1) (by rw [cj, y3]) <|
    br_f (by decide) <| xo_p61 (m := mt_ab x y) hi hj hm hL hs h5 x4 y4 x2 rfl rfl rfl rfl K
end
end
section
section
variable {kT kF kN kA kB kC sH sN sE nl cl hl doc nod chr cho mea sc ph pw rc dep : Int32} {dN dC dH dM nK nV nZ nS pl mH mW mL mR cH cW cL cR lE rN rR rC st tN tB tS : Nat → Int32}
theorem xl_j62 {post : Int32 → SX → Prop} {J : Int32 → Int32 → Int32 → Int32 → Int32 → Int32 → Int32 → Int32 → Int32 → Int32 → Int32 → Int32 → Int32 → Int32 → Int32 → Int32 → Int32 → Int32 → Int32 → Int32 → Int32 → Int32 → Int32 → (Nat → Int32) → (Nat → Int32) → (Nat → Int32) → (Nat → Int32) → (Nat → Int32) → (Nat → Int32) → (Nat → Int32) → (Nat → Int32) → (Nat → Int32) → (Nat → Int32) → (Nat → Int32) → (Nat → Int32) → (Nat → Int32) → (Nat → Int32) → (Nat → Int32) → (Nat → Int32) → (Nat → Int32) → (Nat → Int32) → (Nat → Int32) → (Nat → Int32) → (Nat → Int32) → (Nat → Int32) → (Nat → Int32) → (Nat → Int32) → (Nat → Int32) → Prop} {kd x3 : Int32} {jn : mt_M → mt_M → mt_M} {x : mt_M} {i e : Nat} (he : e ≤ 128) {Q : List mt_M}
    (HP : ∀ {post : SX → Prop} {y : mt_M} {j : Nat} {L : List mt_M} {sc : Int32} {cH cW cL cR : Nat → Int32}, j < 128 → mt_bd (jn x y) → L.length + 1 ≤ 64 → ml_at cH cW cL cR 0 L → sc = nI L.length → ml_e mH mW mL mR j y →
      (∀ (sc : Int32) (cH cW cL cR : Nat → Int32), sc = nI (fo_off L (jn x y)).length → ml_at cH cW cL cR 0 (fo_off L (jn x y)) → post (kT, kF, kN, kA, kB, kC, sH, sN, sE, nl, cl, hl, doc, nod, chr, cho, mea, sc, ph, pw, rc, dep, dN, dC, dH, dM, nK, nV, nZ, nS, pl, mH, mW, mL, mR, cH, cW, cL, cR, lE, rN, rR, rC, st, tN, tB, tS)) → wpX_offerPair post (kT, kF, kN, kA, kB, kC, sH, sN, sE, nl, cl, hl, doc, nod, chr, cho, mea, sc, ph, pw, rc, dep, dN, dC, dH, dM, nK, nV, nZ, nS, pl, mH, mW, mL, mR, cH, cW, cL, cR, lE, rN, rR, rC, st, tN, tB, tS) kd (nI i) (nI j))
    (K : ∀ (sc : Int32) (cH cW cL cR : Nat → Int32), sc = nI Q.length → ml_at cH cW cL cR 0 Q → J (nI (i + 1)) kT kF kN kA kB kC sH sN sE nl cl hl doc nod chr cho mea sc ph pw rc dep dN dC dH dM nK nV nZ nS pl mH mW mL mR cH cW cL cR lE rN rR rC st tN tB tS) :
    ∀ (R : List mt_M) (j n : Nat) (L : List mt_M) (sc : Int32) (cH cW cL cR : Nat → Int32), ml_at mH mW mL mR j R → j + R.length = e → R.length < n → sc = nI L.length → ml_at cH cW cL cR 0 L →
      fo_room L (R.map (jn x)) → (∀ m, m ∈ R.map (jn x) → mt_bd m) → (R.map (jn x)).foldl fo_off L = Q → wX_join_62 post J kd x3 (nI e) (nI i) n (nI j) kT kF kN kA kB kC sH sN sE nl cl hl doc nod chr cho mea sc ph pw rc dep dN dC dH dM nK nV nZ nS pl mH mW mL mR cH cW cL cR lE rN rR rC st tN tB tS := by
  intro R
  induction R with
  | nil =>
    intro j n L sc cH cW cL cR _ hi hn hsc hL _ _ hQ
    obtain ⟨n, rfl⟩ : ∃ k, n = k + 1 := ⟨n - 1, by simp only [List.length_nil] at hn; omega⟩
    simp only [List.length_nil] at hi
    have hQ : L = Q := hQ
    subst hQ
    exact br_t (nI_le (by omega) (by omega)) <| nm_r (nI_1 i) <| K sc cH cW cL cR hsc hL
  | cons y R ih =>
    intro j n L sc cH cW cL cR hR hi hn hsc hL hroom hb hQ
    simp only [List.length_cons] at hn hi
    obtain ⟨n, rfl⟩ : ∃ k, n = k + 1 := ⟨n - 1, by omega⟩
    exact br_f (nI_ge (by omega) (by omega)) <| HP (by omega) (hb _ (List.mem_cons_self)) hroom.1 hL hsc hR.1 fun sc a b c d hsc hm =>
      nm_r (nI_1 j) <| ih (j + 1) n (fo_off L (jn x y)) sc a b c d hR.2 (by omega) (by omega) hsc hm hroom.2 (fun m hm => hb m (List.mem_cons_of_mem _ hm)) hQ
theorem xl_j53 {post : Int32 → SX → Prop} {N C H : Nat} {χ : Nat → Nat} {r : ds_D} {t : tr_T} {Q : List mt_M} {s kd e em : Nat} {jn : mt_M → mt_M → mt_M} (he : e ≤ 128) (hem : em ≤ 128) (h : xn_H N C H χ r t Q s (nI kd) (nI 0) nl cl hl (nI (r.length + 1)) nod chr cho dN dC dH dM nK nV nZ nS pl mH mW mL mR)
    (HP : ∀ {post : SX → Prop} {x y : mt_M} {i j : Nat} {L : List mt_M} {sc : Int32} {cH cW cL cR : Nat → Int32}, i < 128 → j < 128 → mt_bd (jn x y) → L.length + 1 ≤ 64 → ml_at cH cW cL cR 0 L → sc = nI L.length → ml_e mH mW mL mR i x → ml_e mH mW mL mR j y →
      (∀ (sc : Int32) (cH cW cL cR : Nat → Int32), sc = nI (fo_off L (jn x y)).length → ml_at cH cW cL cR 0 (fo_off L (jn x y)) → post (kT, kF, kN, kA, kB, kC, sH, sN, sE, nl, cl, hl, nI (r.length + 1 + 1), nod, chr, cho, mea, sc, ph, pw, rc, dep, dN, dC, dH, dM, nK, nV, nZ, nS, pl, mH, mW, mL, mR, cH, cW, cL, cR, lE, rN, rR, rC, st, tN, tB, tS)) → wpX_offerPair post (kT, kF, kN, kA, kB, kC, sH, sN, sE, nl, cl, hl, nI (r.length + 1 + 1), nod, chr, cho, mea, sc, ph, pw, rc, dep, dN, dC, dH, dM, nK, nV, nZ, nS, pl, mH, mW, mL, mR, cH, cW, cL, cR, lE, rN, rR, rC, st, tN, tB, tS) (nI kd) (nI i) (nI j))
    (K : ∀ (doc nod chr cho mea sc : Int32) (dN dC dH dM nK nV nZ nS pl mH mW mL mR cH cW cL cR : Nat → Int32), ds_ok ((t, Q) :: r) → rx_R N C H χ ((t, Q) :: r) nl cl hl doc nod chr cho mea dN dC dH dM nK nV nZ nS pl mH mW mL mR → post 0 (kT, kF, kN, kA, kB, kC, sH, sN, sE, nl, cl, hl, doc, nod, chr, cho, mea, sc, 0, pw, rc, dep, dN, dC, dH, dM, nK, nV, nZ, nS, pl, mH, mW, mL, mR, cH, cW, cL, cR, lE, rN, rR, rC, st, tN, tB, tS)) {Lb : List mt_M} (hb : ml_at mH mW mL mR em Lb) (hbe : em + Lb.length = e) :
    ∀ (R : List mt_M) (i n : Nat) (L : List mt_M) (sc : Int32) (cH cW cL cR : Nat → Int32), ml_at mH mW mL mR i R → i + R.length = em → R.length < n → sc = nI L.length → ml_at cH cW cL cR 0 L →
      fo_room L (R.flatMap (fun x => Lb.map (jn x))) → (∀ m, m ∈ R.flatMap (fun x => Lb.map (jn x)) → mt_bd m) → (R.flatMap (fun x => Lb.map (jn x))).foldl fo_off L = Q →
      wX_join_53 post (nI kd) (nI em) (nI e) n (nI i) kT kF kN kA kB kC sH sN sE nl cl hl (nI (r.length + 1 + 1)) nod chr cho mea sc ph pw rc dep dN dC dH dM nK nV nZ nS pl mH mW mL mR cH cW cL cR lE rN rR rC st tN tB tS := by
  intro R
  induction R with
  | nil =>
    intro i n L sc cH cW cL cR _ hi hn hsc hL _ _ hQ
    obtain ⟨n, rfl⟩ : ∃ k, n = k + 1 := ⟨n - 1, by simp only [List.length_nil] at hn; omega⟩
    simp only [List.length_nil] at hi
    have hQ : L = Q := hQ
    subst hQ
    exact br_t (nI_le (by omega) (by omega)) <| nm_r (nI_pred (r.length + 1)) <| xn_fin h hsc hL K
  | cons x R ih =>
    intro i n L sc cH cW cL cR hR hi hn hsc hL hroom hbd hQ
    simp only [List.length_cons] at hn hi
    obtain ⟨n, rfl⟩ : ∃ k, n = k + 1 := ⟨n - 1, by omega⟩
    rw [List.flatMap_cons] at hroom hbd hQ
    rw [List.foldl_append] at hQ
    obtain ⟨hr1, hr2⟩ := fo_room_app _ _ _ hroom
    exact br_f (nI_ge (by omega) (by omega)) <| Exists.intro (Lb.length + 1) <|
      xl_j62 he (fun h1 h2 h3 h4 h5 h6 h7 => HP (by omega) h1 h2 h3 h4 h5 hR.1 h6 h7)
        (fun sc a b c d hsc hm => ih (i + 1) n _ sc a b c d hR.2 (by omega) (by omega) hsc hm hr2 (fun m hm => hbd m (List.mem_append.mpr (Or.inr hm))) hQ)
        Lb em (Lb.length + 1) L sc cH cW cL cR hb hbe (Nat.lt_succ_self _) hsc hL hr1 (fun m hm => hbd m (List.mem_append.mpr (Or.inl hm))) rfl
/-! refusals -/
theorem xq_few {post : Int32 → Prop} {d p : Nat} (h : d < p) (hp : p < 100) (K : post (-3)) : wpX_refusal post (kT, kF, kN, kA, kB, kC, sH, sN, sE, nl, cl, hl, nI d, nod, chr, cho, mea, sc, ph, pw, rc, dep, dN, dC, dH, dM, nK, nV, nZ, nS, pl, mH, mW, mL, mR, cH, cW, cL, cR, lE, rN, rR, rC, st, tN, tB, tS) (nI p) := br_f (nI_ge h (by omega)) K
theorem xq_full {post : Int32 → Prop} {d p s N : Nat} (h : p ≤ d) (hp : d < 100) (h2 : N < s + 1) (hs : s < 100) (K : post (-5)) : wpX_refusal post (kT, kF, kN, kA, kB, kC, sH, sN, sE, nI N, cl, hl, nI d, nI s, chr, cho, mea, sc, ph, pw, rc, dep, dN, dC, dH, dM, nK, nV, nZ, nS, pl, mH, mW, mL, mR, cH, cW, cL, cR, lE, rN, rR, rC, st, tN, tB, tS) (nI p) :=
  br_t (nI_le h (by omega)) (br_f (by rw [nI_1]; exact nI_ge h2 (by omega)) K)
theorem xq_ok {post : Int32 → Prop} {d p s N : Nat} (h : p ≤ d) (hp : d < 100) (h2 : s + 1 ≤ N) (hs : N < 100) (K : post 0) : wpX_refusal post (kT, kF, kN, kA, kB, kC, sH, sN, sE, nI N, cl, hl, nI d, nI s, chr, cho, mea, sc, ph, pw, rc, dep, dN, dC, dH, dM, nK, nV, nZ, nS, pl, mH, mW, mL, mR, cH, cW, cL, cR, lE, rN, rR, rC, st, tN, tB, tS) (nI p) :=
  br_t (nI_le h (by omega)) (br_t (by rw [nI_1]; exact nI_le h2 (by omega)) K)
/-! flush and nest -/
theorem xp_flush {post : Int32 → SX → Prop} {N C H : Nat} {χ : Nat → Nat} {a : tr_T} {L : List mt_M} {r : ds_D} (hp : ds_in N C H χ ((a, L) :: r)) (hx : rx_R N C H χ ((a, L) :: r) nl cl hl doc nod chr cho mea dN dC dH dM nK nV nZ nS pl mH mW mL mR) (hN : ds_sz ((a, L) :: r) + 1 ≤ N)
    (K : ∀ (Q : List mt_M) (doc nod chr cho mea sc : Int32) (dN dC dH dM nK nV nZ nS pl mH mW mL mR cH cW cL cR : Nat → Int32), ds_ok ((.neg a, Q) :: r) → rx_R N C H χ ((.neg a, Q) :: r) nl cl hl doc nod chr cho mea dN dC dH dM nK nV nZ nS pl mH mW mL mR → post 0 (kT, kF, kN, kA, kB, kC, sH, sN, sE, nl, cl, hl, doc, nod, chr, cho, mea, sc, 0, pw, rc, dep, dN, dC, dH, dM, nK, nV, nZ, nS, pl, mH, mW, mL, mR, cH, cW, cL, cR, lE, rN, rR, rC, st, tN, tB, tS)) : wpX_flush post (kT, kF, kN, kA, kB, kC, sH, sN, sE, nl, cl, hl, doc, nod, chr, cho, mea, sc, ph, pw, rc, dep, dN, dC, dH, dM, nK, nV, nZ, nS, pl, mH, mW, mL, mR, cH, cW, cL, cR, lE, rN, rR, rC, st, tN, tB, tS) := by
  obtain ⟨rfl, rfl, rfl, d1, d2, d3, d4, d5, ⟨g, ga, gn, gm⟩, hpl⟩ := hx
  simp only [List.length_cons, ds_sz, ds_nc, ds_cc, ds_mo] at d1 d2 d3 d4 d5
  subst d1 d2 d3 d4 d5
  obtain ⟨hN8, hN40, hC, hH, q1, q2, q3, hok, hχ⟩ := hp
  simp only [ds_sz, ds_nc, ds_cc] at hN q1 q2 q3 hpl
  have hr := ds_len_sz r
  have ht := tr_sz_pos a
  have hmo := ds_mo_le6 hok (by simp only [ds_sz]; omega) (by simp only [ds_cc]; omega)
  simp only [ds_mo] at hmo
  obtain ⟨e1, e2, e3, e4⟩ := rx_ds_end g
  obtain ⟨f1, f2, f3, f4⟩ := ga
  have ok' : tr_ok (.neg a) := hok.2.1
  obtain ⟨FR, RO⟩ := fo_FR_of (t := .neg a) ok' (by simp only [tr_cc]; omega) (fo_flush hok.2.2)
  have c1 : (nI (r.length + 1)).toNatClampNeg = r.length + 1 := nI_clamp (by omega)
  have c0 : (nI r.length).toNatClampNeg = r.length := nI_clamp (by omega)
  unfold wpX_flush
  refine xq_ok (p := 1) (d := r.length + 1) (s := ds_sz r + tr_sz a) (N := N) (by omega) (by omega) (by omega) (by omega) ?_
  refine br_t rfl <| And.intro (vp_in_nI (by omega) (by omega)) <| nm_r (e' := nI (ds_mo r + L.length)) (by rw [c1, f4]; rfl) <|
    And.intro (by rw [nI_pred]; exact vp_in_nI (by omega) (by omega)) <| nm_r (e' := nI (ds_mo r)) (by rw [nI_pred, c0, e4]) <| Exists.intro (L.length + 1) ?_
  refine xl_flush (N := N) (C := C) (H := H) (χ := χ) (r := r) (t := .neg a) (Q := (L.map mt_fl).foldl fo_off []) (s := ds_sz r + tr_sz a) ?_ (K _) (by omega) L (ds_mo r) (L.length + 1) [] 0 cH cW cL cR gm rfl (Nat.lt_succ_self _) rfl trivial RO ?_ rfl
  · exact ⟨⟨rfl, rfl, rfl, rfl, rfl, rfl, rfl⟩, ⟨hok.1, ok', FR⟩, rfl, by omega, by simp only [tr_cc]; omega, g, rx_mk1 hok.2.1 gn, hpl⟩
  · intro m hm
    obtain ⟨β, rfl⟩ := (fo_flush hok.2.2).1 m hm
    exact mt_bd_of ok' β (by simp only [tr_sz]; omega) (by simp only [tr_nc]; omega) (by simp only [tr_cc]; omega)
theorem xp_nest {post : Int32 → SX → Prop} {N C H k : Nat} {χ : Nat → Nat} {a : tr_T} {L : List mt_M} {r : ds_D} (hk : k ≤ 15) (hp : ds_in N C H χ ((a, L) :: r)) (hx : rx_R N C H χ ((a, L) :: r) nl cl hl doc nod chr cho mea dN dC dH dM nK nV nZ nS pl mH mW mL mR) (hN : ds_sz ((a, L) :: r) + 1 ≤ N)
    (K : ∀ (Q : List mt_M) (doc nod chr cho mea sc : Int32) (dN dC dH dM nK nV nZ nS pl mH mW mL mR cH cW cL cR : Nat → Int32), ds_ok ((.pow a k, Q) :: r) → rx_R N C H χ ((.pow a k, Q) :: r) nl cl hl doc nod chr cho mea dN dC dH dM nK nV nZ nS pl mH mW mL mR → post 0 (kT, kF, kN, kA, kB, kC, sH, sN, sE, nl, cl, hl, doc, nod, chr, cho, mea, sc, 0, pw, rc, dep, dN, dC, dH, dM, nK, nV, nZ, nS, pl, mH, mW, mL, mR, cH, cW, cL, cR, lE, rN, rR, rC, st, tN, tB, tS)) : wpX_nest post (kT, kF, kN, kA, kB, kC, sH, sN, sE, nl, cl, hl, doc, nod, chr, cho, mea, sc, ph, pw, rc, dep, dN, dC, dH, dM, nK, nV, nZ, nS, pl, mH, mW, mL, mR, cH, cW, cL, cR, lE, rN, rR, rC, st, tN, tB, tS) (nI k) := by
  obtain ⟨rfl, rfl, rfl, d1, d2, d3, d4, d5, ⟨g, ga, gn, gm⟩, hpl⟩ := hx
  simp only [List.length_cons, ds_sz, ds_nc, ds_cc, ds_mo] at d1 d2 d3 d4 d5
  subst d1 d2 d3 d4 d5
  obtain ⟨hN8, hN40, hC, hH, q1, q2, q3, hok, hχ⟩ := hp
  simp only [ds_sz, ds_nc, ds_cc] at hN q1 q2 q3 hpl
  have hr := ds_len_sz r
  have ht := tr_sz_pos a
  have hmo := ds_mo_le6 hok (by simp only [ds_sz]; omega) (by simp only [ds_cc]; omega)
  simp only [ds_mo] at hmo
  obtain ⟨e1, e2, e3, e4⟩ := rx_ds_end g
  obtain ⟨f1, f2, f3, f4⟩ := ga
  have ok' : tr_ok (.pow a k) := ⟨hok.2.1, hk⟩
  obtain ⟨FR, RO⟩ := fo_FR_of (t := .pow a k) ok' (by simp only [tr_cc]; omega) (fo_nest hok.2.2)
  have c1 : (nI (r.length + 1)).toNatClampNeg = r.length + 1 := nI_clamp (by omega)
  have c0 : (nI r.length).toNatClampNeg = r.length := nI_clamp (by omega)
  refine br_f (nI_pos (by omega)) <| br_t (nI_le (b := 15) hk (by omega)) <| xq_ok (p := 1) (d := r.length + 1) (s := ds_sz r + tr_sz a) (N := N) (by omega) (by omega) (by omega) (by omega) ?_
  refine br_t rfl <| And.intro (vp_in_nI (by omega) (by omega)) <| nm_r (e' := nI (ds_mo r + L.length)) (by rw [c1, f4]; rfl) <|
    And.intro (by rw [nI_pred]; exact vp_in_nI (by omega) (by omega)) <| nm_r (e' := nI (ds_mo r)) (by rw [nI_pred, c0, e4]) <| Exists.intro (L.length + 1) ?_
  refine xl_nest (N := N) (C := C) (H := H) (χ := χ) (r := r) (t := .pow a k) (Q := (L.map (mt_ne k)).foldl fo_off []) (s := ds_sz r + tr_sz a) ?_ (K _) (by omega) L (ds_mo r) (L.length + 1) [] 0 cH cW cL cR gm rfl (Nat.lt_succ_self _) rfl trivial RO ?_ rfl
  · exact ⟨⟨rfl, rfl, rfl, rfl, rfl, rfl, rfl⟩, ⟨hok.1, ok', FR⟩, rfl, by omega, by simp only [tr_cc]; omega, g, rx_mk2 hok.2.1 gn, hpl⟩
  · intro m hm
    obtain ⟨β, rfl⟩ := (fo_nest hok.2.2).1 m hm
    exact mt_bd_of ok' β (by simp only [tr_sz]; omega) (by simp only [tr_nc]; omega) (by simp only [tr_cc]; omega)
/-! beside, above -/
theorem xp_join {post : Int32 → SX → Prop} {N C H kd : Nat} {χ : Nat → Nat} {a b t : tr_T} {La Lb : List mt_M} {r : ds_D} {jn : mt_M → mt_M → mt_M} (hp : ds_in N C H χ ((b, Lb) :: (a, La) :: r)) (hx : rx_R N C H χ ((b, Lb) :: (a, La) :: r) nl cl hl doc nod chr cho mea dN dC dH dM nK nV nZ nS pl mH mW mL mR) (hN : ds_sz ((b, Lb) :: (a, La) :: r) + 1 ≤ N)
    (ok' : tr_ok t) (hz : tr_sz t = tr_sz a + tr_sz b + 1) (hnc : tr_nc t = tr_nc a + tr_nc b) (hcc : tr_cc t = tr_cc a + tr_cc b)
    (HO : fo_OF t (ds_cc r) (La.flatMap (fun x => Lb.map (jn x))))
    (HM : rx_nd nK nV nZ nS a (ds_sz r) (ds_nc r) (ds_cc r) → rx_nd nK nV nZ nS b (ds_sz r + tr_sz a) (ds_nc r + tr_nc a) (ds_cc r + tr_cc a) →
      rx_nd (upd nK (ds_sz r + (tr_sz a + tr_sz b)) (nI kd)) (upd nV (ds_sz r + (tr_sz a + tr_sz b)) (nI 0)) (upd nZ (ds_sz r + (tr_sz a + tr_sz b)) (nI (tr_sz a + tr_sz b + 1))) (upd nS (ds_sz r + (tr_sz a + tr_sz b)) (nI (ds_nc r))) t (ds_sz r) (ds_nc r) (ds_cc r))
    (HP : ∀ {post : SX → Prop} {nl cl hl doc nod chr cho mea : Int32} {x y : mt_M} {i j : Nat} {L : List mt_M} {sc : Int32} {cH cW cL cR : Nat → Int32}, i < 128 → j < 128 → mt_bd (jn x y) → L.length + 1 ≤ 64 → ml_at cH cW cL cR 0 L → sc = nI L.length → ml_e mH mW mL mR i x → ml_e mH mW mL mR j y →
      (∀ (sc : Int32) (cH cW cL cR : Nat → Int32), sc = nI (fo_off L (jn x y)).length → ml_at cH cW cL cR 0 (fo_off L (jn x y)) → post (kT, kF, kN, kA, kB, kC, sH, sN, sE, nl, cl, hl, doc, nod, chr, cho, mea, sc, ph, pw, rc, dep, dN, dC, dH, dM, nK, nV, nZ, nS, pl, mH, mW, mL, mR, cH, cW, cL, cR, lE, rN, rR, rC, st, tN, tB, tS)) → wpX_offerPair post (kT, kF, kN, kA, kB, kC, sH, sN, sE, nl, cl, hl, doc, nod, chr, cho, mea, sc, ph, pw, rc, dep, dN, dC, dH, dM, nK, nV, nZ, nS, pl, mH, mW, mL, mR, cH, cW, cL, cR, lE, rN, rR, rC, st, tN, tB, tS) (nI kd) (nI i) (nI j))
    (K : ∀ (Q : List mt_M) (doc nod chr cho mea sc : Int32) (dN dC dH dM nK nV nZ nS pl mH mW mL mR cH cW cL cR : Nat → Int32), ds_ok ((t, Q) :: r) → rx_R N C H χ ((t, Q) :: r) nl cl hl doc nod chr cho mea dN dC dH dM nK nV nZ nS pl mH mW mL mR → post 0 (kT, kF, kN, kA, kB, kC, sH, sN, sE, nl, cl, hl, doc, nod, chr, cho, mea, sc, 0, pw, rc, dep, dN, dC, dH, dM, nK, nV, nZ, nS, pl, mH, mW, mL, mR, cH, cW, cL, cR, lE, rN, rR, rC, st, tN, tB, tS)) : wpX_join post (kT, kF, kN, kA, kB, kC, sH, sN, sE, nl, cl, hl, doc, nod, chr, cho, mea, sc, ph, pw, rc, dep, dN, dC, dH, dM, nK, nV, nZ, nS, pl, mH, mW, mL, mR, cH, cW, cL, cR, lE, rN, rR, rC, st, tN, tB, tS) (nI kd) := by
  obtain ⟨rfl, rfl, rfl, d1, d2, d3, d4, d5, ⟨⟨g, ga', gna, gma⟩, ga, gnb, gmb⟩, hpl⟩ := hx
  simp only [List.length_cons, ds_sz, ds_nc, ds_cc, ds_mo] at d1 d2 d3 d4 d5
  subst d1 d2 d3 d4 d5
  obtain ⟨hN8, hN40, hC, hH, q1, q2, q3, hok, hχ⟩ := hp
  simp only [ds_sz, ds_nc, ds_cc] at hN q1 q2 q3 hpl gnb
  have hr := ds_len_sz r
  have hta := tr_sz_pos a
  have htb := tr_sz_pos b
  have hmo := ds_mo_le6 hok (by simp only [ds_sz]; omega) (by simp only [ds_cc]; omega)
  simp only [ds_mo] at hmo gmb
  obtain ⟨e1, e2, e3, e4⟩ := rx_ds_end g
  obtain ⟨f1, f2, f3, f4⟩ := ga
  obtain ⟨i1, i2, i3, i4⟩ := ga'
  obtain ⟨FR, RO⟩ := fo_FR_of ok' (by omega) HO
  have c2 : (nI (r.length + 1 + 1)).toNatClampNeg = r.length + 1 + 1 := nI_clamp (by omega)
  have c1 : (nI (r.length + 1)).toNatClampNeg = r.length + 1 := nI_clamp (by omega)
  have c0 : (nI r.length).toNatClampNeg = r.length := nI_clamp (by omega)
  have p1 : nI (r.length + 1 + 1) - 1 = nI (r.length + 1) := nI_pred _
  have p2 : nI (r.length + 1 + 1) - 2 = nI r.length := pk_sub (b := 2) (by omega)
  unfold wpX_join
  refine xq_ok (p := 2) (d := r.length + 1 + 1) (s := ds_sz r + tr_sz a + tr_sz b) (N := N) (by omega) (by omega) (by omega) (by omega) ?_
  refine br_t rfl <| And.intro (by rw [p1]; exact vp_in_nI (by omega) (by omega)) <| nm_r (e' := nI (ds_mo r + La.length)) (by rw [p1, c1, i4]; rfl) <|
    And.intro (vp_in_nI (by omega) (by omega)) <| nm_r (e' := nI (ds_mo r + La.length + Lb.length)) (by rw [c2]; exact f4) <|
    And.intro (by rw [p2]; exact vp_in_nI (by omega) (by omega)) <| nm_r (e' := nI (ds_mo r)) (by rw [p2, c0, e4]) <| Exists.intro (La.length + 1) ?_
  refine xl_j53 (N := N) (C := C) (H := H) (χ := χ) (r := r) (t := t) (Q := (La.flatMap (fun x => Lb.map (jn x))).foldl fo_off []) (s := ds_sz r + (tr_sz a + tr_sz b)) (jn := jn) (by omega) (by omega) ?_ HP (K _) gmb rfl La (ds_mo r) (La.length + 1) [] 0 cH cW cL cR gma rfl (Nat.lt_succ_self _) rfl trivial RO ?_ rfl
  · refine ⟨⟨rfl, rfl, rfl, rfl, congrArg nI (by omega), congrArg nI (by omega), congrArg nI (by omega)⟩, ⟨hok.1.1, ok', FR⟩, by omega, by omega, by omega, g, ?_, ?_⟩
    · rw [hz]; exact HM gna gnb
    · intro i hi; exact hpl i (by omega)
  · intro m hm
    obtain ⟨β, rfl⟩ := HO.1 m hm
    exact mt_bd_of ok' β (by omega) (by omega) (by omega)
theorem xp_beside {post : Int32 → SX → Prop} {N C H : Nat} {χ : Nat → Nat} {a b : tr_T} {La Lb : List mt_M} {r : ds_D} (hp : ds_in N C H χ ((b, Lb) :: (a, La) :: r)) (hx : rx_R N C H χ ((b, Lb) :: (a, La) :: r) nl cl hl doc nod chr cho mea dN dC dH dM nK nV nZ nS pl mH mW mL mR) (hN : ds_sz ((b, Lb) :: (a, La) :: r) + 1 ≤ N)
    (K : ∀ (Q : List mt_M) (doc nod chr cho mea sc : Int32) (dN dC dH dM nK nV nZ nS pl mH mW mL mR cH cW cL cR : Nat → Int32), ds_ok ((.add a b, Q) :: r) → rx_R N C H χ ((.add a b, Q) :: r) nl cl hl doc nod chr cho mea dN dC dH dM nK nV nZ nS pl mH mW mL mR → post 0 (kT, kF, kN, kA, kB, kC, sH, sN, sE, nl, cl, hl, doc, nod, chr, cho, mea, sc, 0, pw, rc, dep, dN, dC, dH, dM, nK, nV, nZ, nS, pl, mH, mW, mL, mR, cH, cW, cL, cR, lE, rN, rR, rC, st, tN, tB, tS)) : wpX_beside post (kT, kF, kN, kA, kB, kC, sH, sN, sE, nl, cl, hl, doc, nod, chr, cho, mea, sc, ph, pw, rc, dep, dN, dC, dH, dM, nK, nV, nZ, nS, pl, mH, mW, mL, mR, cH, cW, cL, cR, lE, rN, rR, rC, st, tN, tB, tS) := by
  have hok := hp.2.2.2.2.2.2.2.1
  exact xp_join (kd := 4) (t := .add a b) (jn := mt_be) hp hx hN ⟨hok.1.2.1, hok.2.1⟩ rfl rfl rfl (fo_beside hok.1.2.1 hok.2.1 hok.1.2.2 hok.2.2) (fun p q => rx_mk4 hok.1.2.1 hok.2.1 p q)
    (fun h1 h2 h3 h4 h5 h6 h7 h8 h9 => xo_be h1 h2 h3 h4 h5 h6 h7 h8 h9) K
theorem xp_above {post : Int32 → SX → Prop} {N C H : Nat} {χ : Nat → Nat} {a b : tr_T} {La Lb : List mt_M} {r : ds_D} (hp : ds_in N C H χ ((b, Lb) :: (a, La) :: r)) (hx : rx_R N C H χ ((b, Lb) :: (a, La) :: r) nl cl hl doc nod chr cho mea dN dC dH dM nK nV nZ nS pl mH mW mL mR) (hN : ds_sz ((b, Lb) :: (a, La) :: r) + 1 ≤ N)
    (K : ∀ (Q : List mt_M) (doc nod chr cho mea sc : Int32) (dN dC dH dM nK nV nZ nS pl mH mW mL mR cH cW cL cR : Nat → Int32), ds_ok ((.sub a b, Q) :: r) → rx_R N C H χ ((.sub a b, Q) :: r) nl cl hl doc nod chr cho mea dN dC dH dM nK nV nZ nS pl mH mW mL mR → post 0 (kT, kF, kN, kA, kB, kC, sH, sN, sE, nl, cl, hl, doc, nod, chr, cho, mea, sc, 0, pw, rc, dep, dN, dC, dH, dM, nK, nV, nZ, nS, pl, mH, mW, mL, mR, cH, cW, cL, cR, lE, rN, rR, rC, st, tN, tB, tS)) : wpX_above post (kT, kF, kN, kA, kB, kC, sH, sN, sE, nl, cl, hl, doc, nod, chr, cho, mea, sc, ph, pw, rc, dep, dN, dC, dH, dM, nK, nV, nZ, nS, pl, mH, mW, mL, mR, cH, cW, cL, cR, lE, rN, rR, rC, st, tN, tB, tS) := by
  have hok := hp.2.2.2.2.2.2.2.1
  exact xp_join (kd := 3) (t := .sub a b) (jn := mt_ab) hp hx hN ⟨hok.1.2.1, hok.2.1⟩ rfl rfl rfl (fo_above hok.1.2.1 hok.2.1 hok.1.2.2 hok.2.2) (fun p q => rx_mk3 hok.1.2.1 hok.2.1 p q)
    (fun h1 h2 h3 h4 h5 h6 h7 h8 h9 => xo_ab h1 h2 h3 h4 h5 h6 h7 h8 h9) K
end
end
section
theorem mt_bd1 {n : Nat} (h : n < 4096) : mt_bd (1, n, n, 0) := by
  unfold mt_bd; dsimp only; omega
theorem pk_bit {c : Nat} (hc : c < 31) : (1 : Int32) <<< (nI c &&& 31) = nI (2 ^ c) := by
  have h : (1 : Nat) * 2 ^ c < 2 ^ 32 := by rw [Nat.one_mul]; exact Nat.pow_lt_pow_right (by omega) (by omega)
  have e := pk_shlN (n := 1) (nI c &&& 31) c (s_l c (by omega)) h
  rw [Nat.one_mul] at e
  exact e
section
variable {kT kF kN kA kB kC sH sN sE nl cl hl doc nod chr cho mea sc ph pw rc dep : Int32} {dN dC dH dM nK nV nZ nS pl mH mW mL mR cH cW cL cR lE rN rR rC st tN tB tS : Nat → Int32}
theorem xl_offerAll {post : SX → Prop} {d m0 b : Nat} {p0 p1 : Int32} {R L Q : List mt_M} (hp0 : p0 = nI d) (hp1 : p1 = nI b) (hd : d + 1 ≤ 40) (e0 : dM d = nI m0) (e1 : dM (d + 1) = nI (m0 + R.length)) (hm : m0 + R.length ≤ 128) (gm : ml_at mH mW mL mR m0 R)
    (hsc : sc = nI L.length) (hL : ml_at cH cW cL cR 0 L) (hr : fo_room L (R.map (mt_bt b))) (hb : ∀ m, m ∈ R.map (mt_bt b) → mt_bd m) (hQ : (R.map (mt_bt b)).foldl fo_off L = Q)
    (K : ∀ (sc : Int32) (cH cW cL cR : Nat → Int32), sc = nI Q.length → ml_at cH cW cL cR 0 Q → post (kT, kF, kN, kA, kB, kC, sH, sN, sE, nl, cl, hl, doc, nod, chr, cho, mea, sc, ph, pw, rc, dep, dN, dC, dH, dM, nK, nV, nZ, nS, pl, mH, mW, mL, mR, cH, cW, cL, cR, lE, rN, rR, rC, st, tN, tB, tS)) : wpX_offerAll post (kT, kF, kN, kA, kB, kC, sH, sN, sE, nl, cl, hl, doc, nod, chr, cho, mea, sc, ph, pw, rc, dep, dN, dC, dH, dM, nK, nV, nZ, nS, pl, mH, mW, mL, mR, cH, cW, cL, cR, lE, rN, rR, rC, st, tN, tB, tS) p0 p1 := by
  subst hp0 hp1
  have c0 : (nI d).toNatClampNeg = d := nI_clamp (by omega)
  have c1 : (nI d + 1).toNatClampNeg = d + 1 := by rw [nI_1]; exact nI_clamp (by omega)
  exact And.intro (by rw [nI_1]; exact vp_in_nI (by omega) (by omega)) <| nm_r (e' := nI (m0 + R.length)) (by rw [c1, e1]) <| And.intro (vp_in_nI (by omega) (by omega)) <| nm_r (e' := nI m0) (by rw [c0, e0]) <|
    Exists.intro (R.length + 1) <| xl_all hm K R m0 (R.length + 1) L sc cH cW cL cR gm rfl (Nat.lt_succ_self _) hsc hL hr hb hQ
theorem xp_choice {post : Int32 → SX → Prop} {N C H : Nat} {χ : Nat → Nat} {a b : tr_T} {La Lb : List mt_M} {r : ds_D} (hp : ds_in N C H χ ((b, Lb) :: (a, La) :: r)) (hx : rx_R N C H χ ((b, Lb) :: (a, La) :: r) nl cl hl doc nod chr cho mea dN dC dH dM nK nV nZ nS pl mH mW mL mR) (hN : ds_sz ((b, Lb) :: (a, La) :: r) + 1 ≤ N) (hC : ds_cc ((b, Lb) :: (a, La) :: r) + 1 ≤ H)
    (K : ∀ (Q : List mt_M) (doc nod chr cho mea sc : Int32) (dN dC dH dM nK nV nZ nS pl mH mW mL mR cH cW cL cR : Nat → Int32), ds_ok ((.mul a b, Q) :: r) → rx_R N C H χ ((.mul a b, Q) :: r) nl cl hl doc nod chr cho mea dN dC dH dM nK nV nZ nS pl mH mW mL mR → post 0 (kT, kF, kN, kA, kB, kC, sH, sN, sE, nl, cl, hl, doc, nod, chr, cho, mea, sc, 0, pw, rc, dep, dN, dC, dH, dM, nK, nV, nZ, nS, pl, mH, mW, mL, mR, cH, cW, cL, cR, lE, rN, rR, rC, st, tN, tB, tS)) : wpX_choice post (kT, kF, kN, kA, kB, kC, sH, sN, sE, nl, cl, hl, doc, nod, chr, cho, mea, sc, ph, pw, rc, dep, dN, dC, dH, dM, nK, nV, nZ, nS, pl, mH, mW, mL, mR, cH, cW, cL, cR, lE, rN, rR, rC, st, tN, tB, tS) := by
  obtain ⟨rfl, rfl, rfl, d1, d2, d3, d4, d5, ⟨⟨g, ga', gna, gma⟩, ga, gnb, gmb⟩, hpl⟩ := hx
  simp only [List.length_cons, ds_sz, ds_nc, ds_cc, ds_mo] at d1 d2 d3 d4 d5
  subst d1 d2 d3 d4 d5
  obtain ⟨hN8, hN40, hC64, hH, q1, q2, q3, hok, hχ⟩ := hp
  simp only [ds_sz, ds_nc, ds_cc] at hN hC q1 q2 q3 hpl gnb
  have hr := ds_len_sz r
  have hta := tr_sz_pos a
  have htb := tr_sz_pos b
  have hmo := ds_mo_le6 hok (by simp only [ds_sz]; omega) (by simp only [ds_cc]; omega)
  simp only [ds_mo] at hmo gmb
  obtain ⟨e1, e2, e3, e4⟩ := rx_ds_end g
  obtain ⟨f1, f2, f3, f4⟩ := ga
  obtain ⟨i1, i2, i3, i4⟩ := ga'
  have ok' : tr_ok (.mul a b) := ⟨hok.1.2.1, hok.2.1⟩
  have HO := fo_choice hok.1.2.1 hok.2.1 hok.1.2.2 hok.2.2
  obtain ⟨FR, RO⟩ := fo_FR_of ok' (by simp only [tr_cc]; omega) HO
  have em : La.map (mt_bt 0) = La := by
    have : mt_bt 0 = id := funext fun m => rfl
    rw [this, List.map_id]
  obtain ⟨RO1, RO2⟩ := fo_room_app _ _ _ RO
  have BD : ∀ m, m ∈ La ++ Lb.map (mt_bt (2 ^ (ds_cc r + tr_cc a + tr_cc b))) → mt_bd m := by
    intro m hm
    obtain ⟨β, rfl⟩ := HO.1 m hm
    exact mt_bd_of ok' β (by simp only [tr_sz]; omega) (by simp only [tr_nc]; omega) (by simp only [tr_cc]; omega)
  have p1 : nI (r.length + 1 + 1) - 1 = nI (r.length + 1) := nI_pred _
  have p2 : nI (r.length + 1 + 1) - 2 = nI r.length := pk_sub (b := 2) (by omega)
  unfold wpX_choice
  refine xq_ok (p := 2) (d := r.length + 1 + 1) (s := ds_sz r + tr_sz a + tr_sz b) (N := N) (by omega) (by omega) (by omega) (by omega) ?_
  refine br_t rfl <| br_t (by rw [nI_1]; exact nI_le (by omega) (by omega)) ?_
  refine xl_offerAll (d := r.length) (m0 := ds_mo r) (b := 0) (R := La) (L := []) p2 rfl (by omega) e4 i4 (by omega) gma rfl trivial (by rw [em]; exact RO1) (by rw [em]; exact fun m hm => BD m (List.mem_append.mpr (Or.inl hm))) rfl ?_
  intro sc cH cW cL cR hsc hL
  rw [em] at hsc hL
  refine xl_offerAll (d := r.length + 1) (m0 := ds_mo r + La.length) (b := 2 ^ (ds_cc r + tr_cc a + tr_cc b)) (R := Lb) p1 (pk_bit (by omega)) (by omega) i4 f4 (by omega) gmb hsc hL RO2 (fun m hm => BD m (List.mem_append.mpr (Or.inr hm))) rfl ?_
  intro sc cH cW cL cR hsc hL
  rw [← List.foldl_append] at hsc hL
  refine nm_r (nI_1 _) <| nm_r p1 <| xn_fin (N := N) (C := C) (H := H) (χ := χ) (r := r) (t := .mul a b) (s := ds_sz r + (tr_sz a + tr_sz b)) ?_ hsc hL (K _)
  refine ⟨⟨rfl, rfl, rfl, rfl, congrArg nI (by omega), congrArg nI (by simp only [tr_nc]; omega), congrArg nI (by simp only [tr_cc]; omega)⟩, ⟨hok.1.1, ok', FR⟩, by simp only [tr_sz]; omega, by omega, by simp only [tr_cc]; omega, g, rx_mk5 hok.1.2.1 hok.2.1 gna gnb, ?_⟩
  intro i hi; exact hpl i (by simp only [tr_nc] at hi; omega)
/-! text -/
theorem xl_text {post : Int32 → SX → Prop} {N C H n cv : Nat} {χ : Nat → Nat} {ds : ds_D} (hds : ds_ok ds) (hN : ds_sz ds + 1 ≤ 40) (hcc : ds_cc ds ≤ 6) (hn : ds_nc ds + n ≤ 64) (g : rx_ds dN dC dH dM nK nV nZ nS mH mW mL mR ds)
    (K : ∀ (Q : List mt_M) (doc nod chr cho mea sc : Int32) (dN dC dH dM nK nV nZ nS pl mH mW mL mR cH cW cL cR : Nat → Int32), ds_ok ((.var n, Q) :: ds) → rx_R N C H (fun i => if i < ds_nc ds then χ i else cv) ((.var n, Q) :: ds) (nI N) (nI C) (nI H) doc nod chr cho mea dN dC dH dM nK nV nZ nS pl mH mW mL mR → post 0 (kT, kF, kN, kA, kB, kC, sH, sN, sE, nI N, nI C, nI H, doc, nod, chr, cho, mea, sc, 0, pw, rc, dep, dN, dC, dH, dM, nK, nV, nZ, nS, pl, mH, mW, mL, mR, cH, cW, cL, cR, lE, rN, rR, rC, st, tN, tB, tS)) :
    ∀ (d j f : Nat) (pl : Nat → Int32), j + d = n → d < f → (∀ i, i < ds_nc ds + j → pl i = nI (if i < ds_nc ds then χ i else cv)) →
      wX_text_66 post (nI cv) (nI n) kT kF kN kA kB kC sH sN sE (nI N) (nI C) (nI H) (nI (ds.length + 1)) (nI (ds_sz ds)) (nI (ds_nc ds)) (nI (ds_cc ds)) mea sc ph pw rc dep f (nI j) dN dC dH dM nK nV nZ nS pl mH mW mL mR cH cW cL cR lE rN rR rC st tN tB tS := by
  intro d
  induction d with
  | zero =>
    intro j f pl hj hf hpl
    obtain ⟨f, rfl⟩ : ∃ k, f = k + 1 := ⟨f - 1, by omega⟩
    rw [Nat.add_zero] at hj
    subst hj
    obtain ⟨FR, RO⟩ := fo_FR_of (t := .var j) (o := ds_cc ds) trivial (by simp only [tr_cc]; omega) (fo_text j _)
    refine br_t (nI_le (Nat.le_refl _) (by omega)) <| nm_r (nI_add _ _) ?_
    refine xo_all (m := (1, j, j, 0)) (L := []) (mt_bd1 (by omega)) (by simp) trivial rfl rfl rfl rfl rfl fun a b c d h => ?_
    exact xn_fin (N := N) (C := C) (H := H) (χ := fun i => if i < ds_nc ds then χ i else cv) (r := ds) (t := .var j) (Q := fo_off [] (1, j, j, 0)) (s := ds_sz ds) (kd := nI 0) (vl := nI j)
      ⟨⟨rfl, rfl, rfl, rfl, rfl, rfl, rfl⟩, ⟨hds, trivial, FR⟩, rfl, hN, hcc, g, rx_mk0, hpl⟩ rfl h (K _)
  | succ d ih =>
    intro j f pl hj hf hpl
    obtain ⟨f, rfl⟩ : ∃ k, f = k + 1 := ⟨f - 1, by omega⟩
    have c : (nI (ds_nc ds) + nI j).toNatClampNeg = ds_nc ds + j := by rw [nI_add]; exact nI_clamp (by omega)
    exact br_f (nI_ge (by omega) (by omega)) <| And.intro (by rw [nI_add]; exact vp_in_nI (by omega) (by omega)) <| nm_r (e' := upd pl (ds_nc ds + j) (nI cv)) (by rw [c]) <| nm_r (nI_1 j) <|
      ih (j + 1) f _ (by omega) (by omega) fun i hi => by
        by_cases e : i = ds_nc ds + j
        · rw [e, pk_us, if_neg (by omega)]
        · rw [pk_un e]; exact hpl i (by omega)
theorem xp_text {post : Int32 → SX → Prop} {N C H n cv : Nat} {χ : Nat → Nat} {ds : ds_D} (hp : ds_in N C H χ ds) (hx : rx_R N C H χ ds nl cl hl doc nod chr cho mea dN dC dH dM nK nV nZ nS pl mH mW mL mR) (hc1 : 32 ≤ cv) (hc2 : cv ≤ 126) (hn : n ≤ 8) (hN : ds_sz ds + 1 ≤ N) (hC : ds_nc ds + n ≤ C)
    (K : ∀ (Q : List mt_M) (doc nod chr cho mea sc : Int32) (dN dC dH dM nK nV nZ nS pl mH mW mL mR cH cW cL cR : Nat → Int32), ds_ok ((.var n, Q) :: ds) → rx_R N C H (fun i => if i < ds_nc ds then χ i else cv) ((.var n, Q) :: ds) nl cl hl doc nod chr cho mea dN dC dH dM nK nV nZ nS pl mH mW mL mR → post 0 (kT, kF, kN, kA, kB, kC, sH, sN, sE, nl, cl, hl, doc, nod, chr, cho, mea, sc, 0, pw, rc, dep, dN, dC, dH, dM, nK, nV, nZ, nS, pl, mH, mW, mL, mR, cH, cW, cL, cR, lE, rN, rR, rC, st, tN, tB, tS)) : wpX_text post (kT, kF, kN, kA, kB, kC, sH, sN, sE, nl, cl, hl, doc, nod, chr, cho, mea, sc, ph, pw, rc, dep, dN, dC, dH, dM, nK, nV, nZ, nS, pl, mH, mW, mL, mR, cH, cW, cL, cR, lE, rN, rR, rC, st, tN, tB, tS) (nI cv) (nI n) := by
  obtain ⟨rfl, rfl, rfl, rfl, rfl, rfl, rfl, rfl, g, hpl⟩ := hx
  obtain ⟨hN8, hN40, hC64, hH, q1, q2, q3, hok, hχ⟩ := hp
  refine br_f (nI_nlt (b := 32) hc1 (by omega)) <| br_f (nI_nlt (a := 126) hc2 (by omega)) <| br_f (nI_pos (by omega)) <| br_t (nI_le (b := 8) hn (by omega)) <|
    br_f (by rw [nI_1]; exact nI_nlt (by omega) (by omega)) <| br_t (by rw [nI_add]; exact nI_le (by omega) (by omega)) <| nm_r (nI_1 _) <| Exists.intro (n + 1) ?_
  exact xl_text hok (by omega) (by omega) (by omega) g K n 0 (n + 1) pl (by omega) (by omega) fun i hi => by rw [if_pos (by omega)]; exact hpl i (by omega)
/-! put -/
theorem xp_put {post : Int32 → SX → Prop} {N C H n cv : Nat} {χ : Nat → Nat} {L : List mt_M} {r : ds_D} (hp : ds_in N C H χ ((.var n, L) :: r)) (hx : rx_R N C H χ ((.var n, L) :: r) nl cl hl doc nod chr cho mea dN dC dH dM nK nV nZ nS pl mH mW mL mR) (hc1 : 32 ≤ cv) (hc2 : cv ≤ 126) (hC : ds_nc ((.var n, L) :: r) + 1 ≤ C)
    (K : ∀ (Q : List mt_M) (doc nod chr cho mea sc : Int32) (dN dC dH dM nK nV nZ nS pl mH mW mL mR cH cW cL cR : Nat → Int32), ds_ok ((.var (n + 1), Q) :: r) → rx_R N C H (fun i => if i < ds_nc r + n then χ i else cv) ((.var (n + 1), Q) :: r) nl cl hl doc nod chr cho mea dN dC dH dM nK nV nZ nS pl mH mW mL mR → post 0 (kT, kF, kN, kA, kB, kC, sH, sN, sE, nl, cl, hl, doc, nod, chr, cho, mea, sc, 0, pw, rc, dep, dN, dC, dH, dM, nK, nV, nZ, nS, pl, mH, mW, mL, mR, cH, cW, cL, cR, lE, rN, rR, rC, st, tN, tB, tS)) : wpX_put post (kT, kF, kN, kA, kB, kC, sH, sN, sE, nl, cl, hl, doc, nod, chr, cho, mea, sc, ph, pw, rc, dep, dN, dC, dH, dM, nK, nV, nZ, nS, pl, mH, mW, mL, mR, cH, cW, cL, cR, lE, rN, rR, rC, st, tN, tB, tS) (nI cv) := by
  have hL := fo_text_inv hp.2.2.2.2.2.2.2.1.2.2
  subst hL
  obtain ⟨rfl, rfl, rfl, d1, d2, d3, d4, d5, ⟨g, ga, gn, gm⟩, hpl⟩ := hx
  simp only [List.length_cons, ds_sz, ds_nc, ds_cc, ds_mo, tr_sz, tr_nc, tr_cc, List.length_nil] at d1 d2 d3 d4 d5
  subst d1 d2 d3 d4 d5
  obtain ⟨hN8, hN40, hC64, hH, q1, q2, q3, hok, hχ⟩ := hp
  have hmo := ds_mo_le6 hok (by omega) (by omega)
  simp only [ds_sz, ds_nc, ds_cc, ds_mo, tr_sz, tr_nc, tr_cc, List.length_cons, List.length_nil] at q1 q2 q3 hpl hC hmo
  have hr := ds_len_sz r
  obtain ⟨⟨m1, m2, m3, m4, _⟩, _⟩ := gm
  obtain ⟨n1, n2, n3, n4⟩ := gn
  have cn : (nI (ds_sz r + 1) - 1).toNatClampNeg = ds_sz r := by rw [nI_pred]; exact nI_clamp (by omega)
  have hn : vp_in (nI (ds_sz r + 1) - 1) 40 := by rw [nI_pred]; exact vp_in_nI (by omega) (by omega)
  have cm : (nI (ds_mo r + (0 + 1)) - 1).toNatClampNeg = ds_mo r := by rw [Nat.zero_add, nI_pred]; exact nI_clamp (by omega)
  have hm : vp_in (nI (ds_mo r + (0 + 1)) - 1) 128 := by rw [Nat.zero_add, nI_pred]; exact vp_in_nI (by omega) (by omega)
  have cc : (nI (ds_nc r + n)).toNatClampNeg = ds_nc r + n := nI_clamp (by omega)
  have hok' : ds_ok ((.var (n + 1), [(1, n + 1, n + 1, 0)]) :: r) := ⟨hok.1, trivial, fo_text (n + 1) _⟩
  refine br_f (nI_nlt (b := 32) hc1 (by omega)) <| br_t (nI_le (b := 126) hc2 (by omega)) <| br_t (nI_le (a := 1) (by omega) (by omega)) <| And.intro hn <| br_t (by rw [cn, n1]; rfl) <| br_t (by rw [nI_1]; exact nI_le (by omega) (by omega)) <|
    And.intro (vp_in_nI (by omega) (by omega)) <| nm_r (e' := upd pl (ds_nc r + n) (nI cv)) (by rw [cc]) <| nm_r (nI_1 _) <| And.intro hn <| And.intro hn <| nm_r (e' := upd nV (ds_sz r) (nI (n + 1))) (by rw [cn, n2, nI_1]) <|
    And.intro hm <| And.intro hm <| nm_r (e' := upd mW (ds_mo r) (nI (n + 1))) (by rw [cm, m2]; exact congrArg _ (nI_1 n)) <| And.intro hm <| And.intro hm <| nm_r (e' := upd mL (ds_mo r) (nI (n + 1))) (by rw [cm, m3]; exact congrArg _ (nI_1 n)) <|
    xf_fin (D := r.length + 1) (by omega) ?_
  refine K [(1, n + 1, n + 1, 0)] _ _ _ _ _ _ _ _ _ _ _ _ _ _ _ _ _ _ _ _ _ _ _ hok' ⟨rfl, rfl, rfl, rfl, rfl, rfl, rfl, rfl, ?_, ?_⟩
  · exact rx_push (nK := nK) (nV := nV) (nZ := nZ) (nS := nS) (mH := mH) (mW := mW) (mL := mL) (mR := mR) hok.1 g (fun j hj => ⟨rfl, pk_un (by omega), rfl, rfl⟩) (fun j hj => ⟨rfl, pk_un (by omega), pk_un (by omega), rfl⟩) ⟨n1, pk_us, n3, n4⟩ ⟨⟨m1, pk_us, pk_us, m4, mt_bd1 (by omega)⟩, trivial⟩ rfl rfl rfl rfl
  · intro i hi
    simp only [ds_nc, tr_nc] at hi
    dsimp only
    by_cases e : i = ds_nc r + n
    · rw [e, pk_us, if_neg (by omega)]
    · rw [pk_un e, if_pos (by omega)]; exact hpl i (by omega)
/-! drop -/
theorem xp_drop {post : Int32 → SX → Prop} {N C H : Nat} {χ : Nat → Nat} {p : tr_T × List mt_M} {r : ds_D} (hp : ds_in N C H χ (p :: r)) (hx : rx_R N C H χ (p :: r) nl cl hl doc nod chr cho mea dN dC dH dM nK nV nZ nS pl mH mW mL mR)
    (K : ∀ (doc nod chr cho mea sc : Int32) (dN dC dH dM nK nV nZ nS pl mH mW mL mR cH cW cL cR : Nat → Int32), rx_R N C H χ r nl cl hl doc nod chr cho mea dN dC dH dM nK nV nZ nS pl mH mW mL mR → post 0 (kT, kF, kN, kA, kB, kC, sH, sN, sE, nl, cl, hl, doc, nod, chr, cho, mea, sc, 0, pw, rc, dep, dN, dC, dH, dM, nK, nV, nZ, nS, pl, mH, mW, mL, mR, cH, cW, cL, cR, lE, rN, rR, rC, st, tN, tB, tS)) : wpX_drop post (kT, kF, kN, kA, kB, kC, sH, sN, sE, nl, cl, hl, doc, nod, chr, cho, mea, sc, ph, pw, rc, dep, dN, dC, dH, dM, nK, nV, nZ, nS, pl, mH, mW, mL, mR, cH, cW, cL, cR, lE, rN, rR, rC, st, tN, tB, tS) := by
  obtain ⟨rfl, rfl, rfl, d1, d2, d3, d4, d5, ⟨g, ga, gn, gm⟩, hpl⟩ := hx
  simp only [List.length_cons] at d1
  subst d1
  obtain ⟨hN8, hN40, hC64, hH, q1, q2, q3, hok, hχ⟩ := hp
  simp only [ds_sz, ds_nc, ds_cc] at q1 q2 q3 hpl
  have hr := ds_len_sz r
  have ht := tr_sz_pos p.1
  obtain ⟨e1, e2, e3, e4⟩ := rx_ds_end g
  have c0 : (nI r.length).toNatClampNeg = r.length := nI_clamp (by omega)
  have hin : vp_in (nI r.length) 41 := vp_in_nI (by omega) (by omega)
  refine br_t (nI_le (a := 1) (by omega) (by omega)) <| nm_r (nI_pred _) <| And.intro hin <| nm_r (e' := nI (ds_sz r)) (by rw [c0, e1]) <| And.intro hin <| nm_r (e' := nI (ds_nc r)) (by rw [c0, e2]) <| And.intro hin <| nm_r (e' := nI (ds_cc r)) (by rw [c0, e3]) <| And.intro hin <| nm_r (e' := nI (ds_mo r)) (by rw [c0, e4]) <|
    xf_fin (D := r.length) (by omega) ?_
  refine K _ _ _ _ _ _ _ _ _ _ _ _ _ _ _ _ _ _ _ _ _ _ _ ⟨rfl, rfl, rfl, rfl, rfl, rfl, rfl, rfl, ?_, fun i hi => hpl i (by omega)⟩
  refine rx_ds_cg r hok.1 (fun j hj => ?_) (fun j _ => ⟨rfl, rfl, rfl, rfl⟩) (fun j _ => ⟨rfl, rfl, rfl, rfl⟩) g
  by_cases e : j = r.length
  · subst e; exact ⟨pk_us.trans e1.symm, pk_us.trans e2.symm, pk_us.trans e3.symm, pk_us.trans e4.symm⟩
  · exact ⟨pk_un e, pk_un e, pk_un e, pk_un e⟩
end
end
section
section
variable {kT kF kN kA kB kC sH sN sE nl cl hl doc nod chr cho mea sc ph pw rc dep : Int32} {dN dC dH dM nK nV nZ nS pl mH mW mL mR cH cW cL cR lE rN rR rC st tN tB tS : Nat → Int32}
theorem xc_nodes {post : SX → Prop} {s z ec eo : Nat} (hz : 0 < z) (hs : s + z + z ≤ 40) {nK0 nV0 nZ0 nS0 : Nat → Int32}
    (K : ∀ nK nV nZ nS : Nat → Int32, (∀ j, j < s + z → nK j = nK0 j ∧ nV j = nV0 j ∧ nZ j = nZ0 j ∧ nS j = nS0 j) →
      (∀ j, s ≤ j → j < s + z → nK (j + z) = nK0 j ∧ nV (j + z) = (if nK0 j = 5 then nV0 j + nI eo else nV0 j) ∧ nZ (j + z) = nZ0 j ∧ nS (j + z) = nS0 j + nI ec) → post (kT, kF, kN, kA, kB, kC, sH, sN, sE, nl, cl, hl, doc, nI (s + z + z), chr, cho, mea, sc, ph, pw, rc, dep, dN, dC, dH, dM, nK, nV, nZ, nS, pl, mH, mW, mL, mR, cH, cW, cL, cR, lE, rN, rR, rC, st, tN, tB, tS)) :
    ∀ (d i n : Nat) (nK nV nZ nS : Nat → Int32), i + d = s + z → s ≤ i → d < n → (∀ j, j < s + z → nK j = nK0 j ∧ nV j = nV0 j ∧ nZ j = nZ0 j ∧ nS j = nS0 j) →
      (∀ j, s ≤ j → j < i → nK (j + z) = nK0 j ∧ nV (j + z) = (if nK0 j = 5 then nV0 j + nI eo else nV0 j) ∧ nZ (j + z) = nZ0 j ∧ nS (j + z) = nS0 j + nI ec) →
      wX_copyNodes_19 post (nI z) (nI ec) (nI eo) (nI (s + z)) kT kF kN kA kB kC sH sN sE nl cl hl doc (nI (s + z)) chr cho mea sc ph pw rc dep n (nI i) dN dC dH dM nK nV nZ nS pl mH mW mL mR cH cW cL cR lE rN rR rC st tN tB tS := by
  intro d
  induction d with
  | zero =>
    intro i n nK nV nZ nS hi hsi hn h1 h2
    obtain ⟨n, rfl⟩ : ∃ k, n = k + 1 := ⟨n - 1, by omega⟩
    exact br_t (nI_le (by omega) (by omega)) <| nm_r (nI_add _ _) <| K nK nV nZ nS h1 (fun j q1 q2 => h2 j q1 (by omega))
  | succ d ih =>
    intro i n nK nV nZ nS hi hsi hn h1 h2
    obtain ⟨n, rfl⟩ : ∃ k, n = k + 1 := ⟨n - 1, by omega⟩
    have ci : (nI i).toNatClampNeg = i := nI_clamp (by omega)
    have ct : (nI (i + z)).toNatClampNeg = i + z := nI_clamp (by omega)
    have hin : vp_in (nI i) 40 := vp_in_nI (by omega) (by omega)
    have htn : vp_in (nI (i + z)) 40 := vp_in_nI (by omega) (by omega)
    obtain ⟨f1, f2, f3, f4⟩ := h1 i (by omega)
    have T : ∀ w : Int32, w = (if nK0 i = 5 then nV0 i + nI eo else nV0 i) → wX_copyNodes_82 post (wX_copyNodes_19 post (nI z) (nI ec) (nI eo) (nI (s + z)) kT kF kN kA kB kC sH sN sE nl cl hl doc (nI (s + z)) chr cho mea sc ph pw rc dep n) (nI z) (nI ec) (nI eo) (nI (s + z)) (nI i) (nI (i + z)) kT kF kN kA kB kC sH sN sE nl cl hl doc (nI (s + z)) chr cho mea sc ph pw rc dep dN dC dH dM (upd nK (i + z) (nK0 i)) (upd nV (i + z) w) nZ nS pl mH mW mL mR cH cW cL cR lE rN rR rC st tN tB tS := by
      intro w hw
      refine And.intro hin <| And.intro htn <| nm_r (e' := upd nZ (i + z) (nZ0 i)) (by rw [ci, ct, f3]) <| And.intro hin <| And.intro htn <| nm_r (e' := upd nS (i + z) (nS0 i + nI ec)) (by rw [ci, ct, f4]) <| nm_r (nI_1 i) <|
        ih (i + 1) n _ _ _ _ (by omega) (by omega) (by omega) (fun j hj => ?_) (fun j q1 q2 => ?_)
      · obtain ⟨g1, g2, g3, g4⟩ := h1 j hj
        exact ⟨(pk_un (by omega)).trans g1, (pk_un (by omega)).trans g2, (pk_un (by omega)).trans g3, (pk_un (by omega)).trans g4⟩
      · by_cases e : j = i
        · subst e; exact ⟨pk_us, pk_us.trans hw, pk_us, pk_us⟩
        · obtain ⟨g1, g2, g3, g4⟩ := h2 j q1 (by omega)
          exact ⟨(pk_un (by omega)).trans g1, (pk_un (by omega)).trans g2, (pk_un (by omega)).trans g3, (pk_un (by omega)).trans g4⟩
    have kk : upd nK (i + z) (nK0 i) (nI i).toNatClampNeg = nK0 i := by rw [ci, pk_un (by omega), f1]
    refine br_f (nI_ge (by omega) (by omega)) <| nm_r (nI_add i z) <| And.intro hin <| And.intro htn <| nm_r (e' := upd nK (i + z) (nK0 i)) (by rw [ci, ct, f1]) <| And.intro hin <| And.intro htn <| nm_r (e' := upd nV (i + z) (nV0 i)) (by rw [ci, ct, f2]) <| And.intro hin <| br_c (fun c => ?_) (fun c => ?_)
    · rw [kk] at c
      refine And.intro htn <| And.intro htn <| nm_r (e' := upd nV (i + z) (nV0 i + nI eo)) ?_ (T _ (by rw [if_pos c]))
      rw [ct, pk_us]
      funext j
      by_cases e : j = i + z
      · rw [e, pk_us, pk_us]
      · rw [pk_un e, pk_un e, pk_un e]
    · rw [kk] at c
      exact T _ (by rw [if_neg c])
theorem xc_chars {post : SX → Prop} {s z : Nat} (hs : s + z + z ≤ 64) {pl0 : Nat → Int32}
    (K : ∀ pl : Nat → Int32, (∀ j, j < s + z → pl j = pl0 j) → (∀ j, s ≤ j → j < s + z → pl (j + z) = pl0 j) → post (kT, kF, kN, kA, kB, kC, sH, sN, sE, nl, cl, hl, doc, nod, nI (s + z + z), cho, mea, sc, ph, pw, rc, dep, dN, dC, dH, dM, nK, nV, nZ, nS, pl, mH, mW, mL, mR, cH, cW, cL, cR, lE, rN, rR, rC, st, tN, tB, tS)) :
    ∀ (d i n : Nat) (pl : Nat → Int32), i + d = s + z → s ≤ i → d < n → (∀ j, j < s + z → pl j = pl0 j) → (∀ j, s ≤ j → j < i → pl (j + z) = pl0 j) →
      wX_copyCharacters_17 post (nI z) (nI (s + z)) kT kF kN kA kB kC sH sN sE nl cl hl doc nod (nI (s + z)) cho mea sc ph pw rc dep n (nI i) dN dC dH dM nK nV nZ nS pl mH mW mL mR cH cW cL cR lE rN rR rC st tN tB tS := by
  intro d
  induction d with
  | zero =>
    intro i n pl hi hsi hn h1 h2
    obtain ⟨n, rfl⟩ : ∃ k, n = k + 1 := ⟨n - 1, by omega⟩
    exact br_t (nI_le (by omega) (by omega)) <| nm_r (nI_add _ _) <| K pl h1 (fun j q1 q2 => h2 j q1 (by omega))
  | succ d ih =>
    intro i n pl hi hsi hn h1 h2
    obtain ⟨n, rfl⟩ : ∃ k, n = k + 1 := ⟨n - 1, by omega⟩
    have ci : (nI i).toNatClampNeg = i := nI_clamp (by omega)
    have ct : (nI i + nI z).toNatClampNeg = i + z := by rw [nI_add]; exact nI_clamp (by omega)
    have hin : vp_in (nI i) 64 := vp_in_nI (by omega) (by omega)
    have htn : vp_in (nI i + nI z) 64 := by rw [nI_add]; exact vp_in_nI (by omega) (by omega)
    refine br_f (nI_ge (by omega) (by omega)) <| And.intro hin <| And.intro htn <| nm_r (e' := upd pl (i + z) (pl0 i)) (by rw [ci, ct, h1 i (by omega)]) <| nm_r (nI_1 i) <| ih (i + 1) n _ (by omega) (by omega) (by omega) (fun j hj => ?_) (fun j q1 q2 => ?_)
    · by_cases e : j = i + z
      · exact absurd hj (by omega)
      · exact (pk_un e).trans (h1 j hj)
    · by_cases e : j = i
      · subst e; exact pk_us
      · exact (pk_un (by omega)).trans (h2 j q1 (by omega))
theorem xc_meas {post : SX → Prop} {m0 e eo : Nat} {L : List mt_M} (he : e = m0 + L.length) (hm : e + L.length ≤ 128) (heo : eo ≤ 6) {mH0 mW0 mL0 mR0 : Nat → Int32}
    (K : ∀ mH mW mL mR : Nat → Int32, (∀ j, j < e → mH j = mH0 j ∧ mW j = mW0 j ∧ mL j = mL0 j ∧ mR j = mR0 j) → ml_at mH mW mL mR e (L.map (mt_sh eo)) → post (kT, kF, kN, kA, kB, kC, sH, sN, sE, nl, cl, hl, doc, nod, chr, cho, nI (e + L.length), sc, ph, pw, rc, dep, dN, dC, dH, dM, nK, nV, nZ, nS, pl, mH, mW, mL, mR, cH, cW, cL, cR, lE, rN, rR, rC, st, tN, tB, tS)) :
    ∀ (R P : List mt_M) (n : Nat) (mH mW mL mR : Nat → Int32), P ++ R = L → (∀ m, m ∈ R → mt_bd (mt_sh eo m)) → R.length < n → (∀ j, j < e → mH j = mH0 j ∧ mW j = mW0 j ∧ mL j = mL0 j ∧ mR j = mR0 j) → ml_at mH mW mL mR (m0 + P.length) R → ml_at mH mW mL mR e (P.map (mt_sh eo)) →
      wX_copyMeasures_24 post (nI eo) (nI e) (nI L.length) kT kF kN kA kB kC sH sN sE nl cl hl doc nod chr cho (nI e) sc ph pw rc dep n (nI (m0 + P.length)) dN dC dH dM nK nV nZ nS pl mH mW mL mR cH cW cL cR lE rN rR rC st tN tB tS := by
  intro R
  induction R with
  | nil =>
    intro P n mH mW mL mR hPR _ hn h1 _ h2
    obtain ⟨n, rfl⟩ : ∃ k, n = k + 1 := ⟨n - 1, by simp only [List.length_nil] at hn; omega⟩
    rw [List.append_nil] at hPR
    subst hPR
    exact br_t (nI_le (by omega) (by omega)) <| nm_r (nI_add _ _) <| K mH mW mL mR h1 h2
  | cons x R ih =>
    intro P n mH mW mL mR hPR hbd hn h1 hR h2
    simp only [List.length_cons] at hn
    obtain ⟨n, rfl⟩ : ∃ k, n = k + 1 := ⟨n - 1, by omega⟩
    have hlen : L.length = P.length + (R.length + 1) := by rw [← hPR, List.length_append, List.length_cons]
    obtain ⟨⟨e1, e2, e3, e4, hb⟩, hR⟩ := hR
    have ci : (nI (m0 + P.length)).toNatClampNeg = m0 + P.length := nI_clamp (by omega)
    have ct : (nI (m0 + P.length) + nI L.length).toNatClampNeg = e + P.length := by rw [nI_add]; rw [nI_clamp (by omega)]; omega
    have hin : vp_in (nI (m0 + P.length)) 128 := vp_in_nI (by omega) (by omega)
    have htn : vp_in (nI (m0 + P.length) + nI L.length) 128 := by rw [nI_add]; exact vp_in_nI (by omega) (by omega)
    have hsb := hbd x (List.mem_cons_self)
    have hr : nI x.2.2.2 <<< (nI eo &&& 31) = nI (mt_sh eo x).2.2.2 := by
      have hz : (mt_sh eo x).2.2.2 = 2 ^ eo * x.2.2.2 := rfl
      have := hsb.2.2.2.1
      rw [pk_shlN _ eo (s_l eo (by omega)) (by rw [Nat.mul_comm, ← hz]; omega), Nat.mul_comm, ← hz]
    have eP : (P.map (mt_sh eo)).length = P.length := List.length_map _
    refine br_f (nI_ge (by omega) (by omega)) <|
      And.intro hin <| And.intro htn <| nm_r (e' := upd mH (e + P.length) (nI (mt_sh eo x).1)) (by rw [ct, ci, e1]; rfl) <|
      And.intro hin <| And.intro htn <| nm_r (e' := upd mW (e + P.length) (nI (mt_sh eo x).2.1)) (by rw [ct, ci, e2]; rfl) <|
      And.intro hin <| And.intro htn <| nm_r (e' := upd mL (e + P.length) (nI (mt_sh eo x).2.2.1)) (by rw [ct, ci, e3]; rfl) <|
      And.intro hin <| And.intro htn <| nm_r (e' := upd mR (e + P.length) (nI (mt_sh eo x).2.2.2)) (by rw [ct, ci, e4, hr]) <|
      nm_r (e' := nI (m0 + (P ++ [x]).length)) (by rw [nI_1, List.length_append]; rfl) <|
        ih (P ++ [x]) n _ _ _ _ (by rw [← hPR, List.append_assoc]; rfl) (fun m hm => hbd m (List.mem_cons_of_mem _ hm)) (by omega) (fun j hj => ?_) ?_ ?_
    · obtain ⟨g1, g2, g3, g4⟩ := h1 j hj
      exact ⟨(pk_un (by omega)).trans g1, (pk_un (by omega)).trans g2, (pk_un (by omega)).trans g3, (pk_un (by omega)).trans g4⟩
    · rw [List.length_append, List.length_singleton, ← Nat.add_assoc]
      exact ml_upd (by omega) hR
    · rw [List.map_append]
      refine ml_snoc (ml_upd (by rw [eP]; omega) h2) ?_
      rw [eP]
      exact ⟨pk_us, pk_us, pk_us, pk_us, hsb⟩
theorem xp_copy {post : Int32 → SX → Prop} {N C H : Nat} {χ : Nat → Nat} {t : tr_T} {L : List mt_M} {r : ds_D} (hp : ds_in N C H χ ((t, L) :: r)) (hx : rx_R N C H χ ((t, L) :: r) nl cl hl doc nod chr cho mea dN dC dH dM nK nV nZ nS pl mH mW mL mR)
    (h1 : ds_sz ((t, L) :: r) + tr_sz t ≤ N) (h2 : ds_nc ((t, L) :: r) + tr_nc t ≤ C) (h3 : ds_cc ((t, L) :: r) + tr_cc t ≤ H)
    (K : ∀ (Q : List mt_M) (doc nod chr cho mea sc : Int32) (dN dC dH dM nK nV nZ nS pl mH mW mL mR cH cW cL cR : Nat → Int32), ds_ok ((t, Q) :: (t, L) :: r) → rx_R N C H (fun i => if i < ds_nc r + tr_nc t then χ i else χ (i - tr_nc t)) ((t, Q) :: (t, L) :: r) nl cl hl doc nod chr cho mea dN dC dH dM nK nV nZ nS pl mH mW mL mR → post 0 (kT, kF, kN, kA, kB, kC, sH, sN, sE, nl, cl, hl, doc, nod, chr, cho, mea, sc, 0, pw, rc, dep, dN, dC, dH, dM, nK, nV, nZ, nS, pl, mH, mW, mL, mR, cH, cW, cL, cR, lE, rN, rR, rC, st, tN, tB, tS)) : wpX_copy post (kT, kF, kN, kA, kB, kC, sH, sN, sE, nl, cl, hl, doc, nod, chr, cho, mea, sc, ph, pw, rc, dep, dN, dC, dH, dM, nK, nV, nZ, nS, pl, mH, mW, mL, mR, cH, cW, cL, cR, lE, rN, rR, rC, st, tN, tB, tS) := by
  obtain ⟨rfl, rfl, rfl, d1, d2, d3, d4, d5, g', hpl⟩ := hx
  simp only [List.length_cons, ds_sz, ds_nc, ds_cc, ds_mo] at d1 d2 d3 d4 d5
  subst d1 d2 d3 d4 d5
  obtain ⟨hN8, hN40, hC64, hH, q1, q2, q3, hok, hχ⟩ := hp
  have FR : fo_FR t (tr_cc t + ds_cc r) (L.map (mt_sh (tr_cc t))) := fo_shift hok.2.1 hok.2.2
  have hok2 : ds_ok ((t, L.map (mt_sh (tr_cc t))) :: (t, L) :: r) := ⟨hok, hok.2.1, by
    show fo_FR t (ds_cc r + tr_cc t) _
    rw [Nat.add_comm]; exact FR⟩
  have hmo := ds_mo_le6 hok2 (by simp only [ds_sz] at h1 ⊢; omega) (by simp only [ds_cc] at h3 ⊢; omega)
  simp only [ds_sz, ds_nc, ds_cc, ds_mo, List.length_map] at h1 h2 h3 q1 q2 q3 hpl hmo
  obtain ⟨g, ga, gn, gm⟩ := id g'
  have hr := ds_len_sz r
  have hta := tr_sz_pos t
  obtain ⟨e1, e2, e3, e4⟩ := rx_ds_end g
  have c0 : (nI r.length).toNatClampNeg = r.length := nI_clamp (by omega)
  have c0' : (nI (r.length + 1) - 1).toNatClampNeg = r.length := by rw [nI_pred]; exact c0
  have hin : vp_in (nI r.length) 41 := vp_in_nI (by omega) (by omega)
  have hin' : vp_in (nI (r.length + 1) - 1) 41 := by rw [nI_pred]; exact hin
  refine br_t (nI_le (a := 1) (by omega) (by omega)) <| nm_r (nI_pred _) <| And.intro hin <| nm_r (e' := nI (tr_sz t)) (by rw [c0, e1, pk_sub (by omega)]; exact congrArg nI (by omega)) <|
    And.intro hin <| nm_r (e' := nI (tr_nc t)) (by rw [c0, e2, pk_sub (by omega)]; exact congrArg nI (by omega)) <| And.intro hin <| nm_r (e' := nI (tr_cc t)) (by rw [c0, e3, pk_sub (by omega)]; exact congrArg nI (by omega)) <|
    br_f (by rw [nI_add]; exact nI_nlt (by omega) (by omega)) <| br_f (by rw [nI_add]; exact nI_nlt (by omega) (by omega)) <| br_t (by rw [nI_add]; exact nI_le (by omega) (by omega)) ?_
  refine And.intro hin' <| nm_r (e' := nI (ds_sz r)) (by rw [c0', e1]) <| Exists.intro (tr_sz t + 1) ?_
  refine xc_nodes (ec := tr_nc t) (eo := tr_cc t) hta (by omega) ?_ (tr_sz t) (ds_sz r) (tr_sz t + 1) nK nV nZ nS rfl (Nat.le_refl _) (Nat.lt_succ_self _) (fun j _ => ⟨rfl, rfl, rfl, rfl⟩) (fun j q1 q2 => absurd q2 (by omega))
  intro nK' nV' nZ' nS' a1 a2
  refine And.intro hin' <| nm_r (e' := nI (ds_nc r)) (by rw [c0', e2]) <| Exists.intro (tr_nc t + 1) ?_
  refine xc_chars (by omega) ?_ (tr_nc t) (ds_nc r) (tr_nc t + 1) pl rfl (Nat.le_refl _) (Nat.lt_succ_self _) (fun j _ => rfl) (fun j q1 q2 => absurd q2 (by omega))
  intro pl' b1 b2
  refine And.intro hin' <| nm_r (e' := nI L.length) (by rw [c0', e4, pk_sub (by omega)]; exact congrArg nI (by omega)) <| nm_r (e' := nI (ds_mo r)) (by rw [pk_sub (by omega)]; exact congrArg nI (by omega)) <| Exists.intro (L.length + 1) ?_
  refine xc_meas (m0 := ds_mo r) (L := L) rfl (by omega) (by omega) ?_ L [] (L.length + 1) mH mW mL mR (List.nil_append _) (fun m hm => ?_) (Nat.lt_succ_self _) (fun j _ => ⟨rfl, rfl, rfl, rfl⟩) gm trivial
  · intro mH' mW' mL' mR' m1 m2
    refine nm_r (nI_add _ _) <| nm_r (nI_1 _) <| xf_fin (D := r.length + 1 + 1) (by omega) ?_
    refine K (L.map (mt_sh (tr_cc t))) _ _ _ _ _ _ _ _ _ _ _ _ _ _ _ _ _ _ _ _ _ _ _ hok2 ⟨rfl, rfl, rfl, rfl, rfl, rfl, rfl, congrArg nI (by simp only [ds_mo, List.length_map]), ?_, ?_⟩
    · refine rx_push (r := (t, L) :: r) hok g' (fun j hj => a1 j hj) (fun j hj => m1 j hj) ?_ m2 rfl rfl rfl (congrArg nI (by simp only [ds_mo, List.length_map]))
      exact rx_nd_sh t hok.2.1 _ _ _ a2 gn
    · intro i hi
      simp only [ds_nc] at hi
      dsimp only
      by_cases e : i < ds_nc r + tr_nc t
      · rw [if_pos e, b1 i e]; exact hpl i e
      · rw [if_neg e]
        have z := b2 (i - tr_nc t) (by omega) (by omega)
        rw [show i - tr_nc t + tr_nc t = i by omega] at z
        rw [z]; exact hpl _ (by omega)
  · obtain ⟨β, e⟩ := FR.1 (mt_sh (tr_cc t) m) (List.mem_map.mpr ⟨m, hm, rfl⟩)
    rw [e]
    exact mt_bd_of (t := t) hok.2.1 β (by omega) (by omega) (by omega)
end
end
section
/-! pages: a string that grows at its end, with line ends and runs -/
def al_at (a : Nat → Int32) : Nat → List Nat → Prop
  | _, [] => True
  | i, c :: s => a i = nI c ∧ al_at a (i + 1) s
theorem al_cg {a a' : Nat → Int32} : ∀ (s : List Nat) (i : Nat), (∀ j, i ≤ j → j < i + s.length → a' j = a j) → al_at a i s → al_at a' i s
  | [], _, _, _ => trivial
  | c :: s, i, h, g => ⟨(h i (Nat.le_refl _) (by simp only [List.length_cons]; omega)).trans g.1, al_cg s (i + 1) (fun j h1 h2 => h j (by omega) (by simp only [List.length_cons]; omega)) g.2⟩
theorem al_app {a : Nat → Int32} : ∀ (s t : List Nat) (i : Nat), al_at a i (s ++ t) ↔ al_at a i s ∧ al_at a (i + s.length) t
  | [], t, i => by simp [al_at]
  | c :: s, t, i => by
    simp only [List.cons_append, al_at, List.length_cons]
    rw [al_app s t (i + 1), show i + 1 + s.length = i + (s.length + 1) by omega]
    exact and_assoc.symm
theorem al_get {a : Nat → Int32} : ∀ (s : List Nat) (i j c : Nat), al_at a i s → s[j]? = some c → a (i + j) = nI c
  | [], _, _, _, _, h => by simp at h
  | x :: s, i, 0, c, g, h => by simp at h; rw [← h]; exact g.1
  | x :: s, i, j + 1, c, g, h => by
    have := al_get s (i + 1) j c g.2 (by simpa using h)
    rw [show i + (j + 1) = i + 1 + j by omega]; exact this
theorem al_of {a : Nat → Int32} : ∀ (s : List Nat) (i : Nat), (∀ j c, s[j]? = some c → a (i + j) = nI c) → al_at a i s
  | [], _, _ => trivial
  | x :: s, i, h => ⟨h 0 x rfl, al_of s (i + 1) (fun j c e => by
      have := h (j + 1) c (by simpa using e)
      rw [show i + 1 + j = i + (j + 1) by omega]; exact this)⟩
abbrev pr_R : Type := Nat × Nat × List Nat
def pr_lk : List pr_R → Nat → Nat → Option Nat
  | [], _, _ => none
  | x :: R, r, c => if x.1 = r ∧ x.2.1 ≤ c ∧ c < x.2.1 + x.2.2.length then x.2.2[c - x.2.1]? else pr_lk R r c
theorem pr_lk_none : ∀ (R : List pr_R) (r c : Nat), (∀ x, x ∈ R → ¬ (x.1 = r ∧ x.2.1 ≤ c ∧ c < x.2.1 + x.2.2.length)) → pr_lk R r c = none
  | [], _, _, _ => rfl
  | x :: R, r, c, h => by
    simp only [pr_lk]
    rw [if_neg (h x (by simp))]
    exact pr_lk_none R r c (fun y hy => h y (by simp [hy]))
theorem pr_lk_app1 : ∀ (R : List pr_R) (y : pr_R) (r c : Nat), ¬ (y.1 = r ∧ y.2.1 ≤ c ∧ c < y.2.1 + y.2.2.length) → pr_lk (R ++ [y]) r c = pr_lk R r c
  | [], y, r, c, h => by simp only [List.nil_append, pr_lk]; rw [if_neg h]
  | x :: R, y, r, c, h => by simp only [List.cons_append, pr_lk]; rw [pr_lk_app1 R y r c h]
theorem pr_lk_app2 : ∀ (R : List pr_R) (y : pr_R) (r c : Nat), (∀ x, x ∈ R → ¬ (x.1 = r ∧ x.2.1 ≤ c ∧ c < x.2.1 + x.2.2.length)) → pr_lk (R ++ [y]) r c = pr_lk [y] r c
  | [], y, r, c, h => rfl
  | x :: R, y, r, c, h => by
    simp only [List.cons_append]
    rw [pr_lk, if_neg (h x (by simp)), pr_lk_app2 R y r c (fun z hz => h z (by simp [hz]))]
def pr_e (rN rR rC nV nS pl : Nat → Int32) (i : Nat) (x : pr_R) : Prop :=
  rR i = nI x.1 ∧ rC i = nI x.2.1 ∧ x.1 < 40 ∧ x.2.1 < 100000 ∧ ∃ nd s, nd < 40 ∧ s + x.2.2.length ≤ 64 ∧ rN i = nI nd ∧ nV nd = nI x.2.2.length ∧ nS nd = nI s ∧ al_at pl s x.2.2
def pr_at (rN rR rC nV nS pl : Nat → Int32) : Nat → List pr_R → Prop
  | _, [] => True
  | i, x :: R => pr_e rN rR rC nV nS pl i x ∧ pr_at rN rR rC nV nS pl (i + 1) R
theorem pr_cg {rN rR rC rN' rR' rC' nV nS pl : Nat → Int32} : ∀ (R : List pr_R) (i : Nat), (∀ j, i ≤ j → j < i + R.length → rN' j = rN j ∧ rR' j = rR j ∧ rC' j = rC j) → pr_at rN rR rC nV nS pl i R → pr_at rN' rR' rC' nV nS pl i R
  | [], _, _, _ => trivial
  | x :: R, i, h, g => by
    obtain ⟨e1, e2, e3⟩ := h i (Nat.le_refl _) (by simp only [List.length_cons]; omega)
    refine ⟨?_, pr_cg R (i + 1) (fun j h1 h2 => h j (by omega) (by simp only [List.length_cons]; omega)) g.2⟩
    unfold pr_e
    rw [e1, e2, e3]
    exact g.1
theorem pr_snoc {rN rR rC nV nS pl : Nat → Int32} : ∀ (R : List pr_R) (i : Nat) (x : pr_R), pr_at rN rR rC nV nS pl i R → pr_e rN rR rC nV nS pl (i + R.length) x → pr_at rN rR rC nV nS pl i (R ++ [x])
  | [], i, x, _, h => ⟨h, trivial⟩
  | y :: R, i, x, g, h => ⟨g.1, pr_snoc R (i + 1) x g.2 (by rw [show i + 1 + R.length = i + (R.length + 1) by omega]; exact h)⟩
/-! the cursor along a string -/
theorem cu_ge (s : List Nat) : 1 ≤ (sg_ms s).1 ∧ (sg_ms s).2.2 ≤ (sg_ms s).2.1 := by
  have := sg_sc_lw s 1 0 0 (by omega)
  unfold sg_ms
  omega
theorem sg_ms_eq (s : List Nat) : sg_ms s = ((sg_ms s).1, (sg_ms s).2.1, (sg_ms s).2.2) := rfl
theorem sg_ms_app (s t : List Nat) : sg_ms (s ++ t) = sg_sc (sg_ms s) t := sg_sc_app _ s t
theorem sg_ms_n (s : List Nat) : (sg_ms (s ++ [10])).1 = (sg_ms s).1 + 1 ∧ (sg_ms (s ++ [10])).2.2 = 0 := by
  rw [sg_ms_app]; exact ⟨rfl, rfl⟩
theorem sg_ms_ne (s t : List Nat) (h : ∀ c, c ∈ t → c ≠ 10) : (sg_ms (s ++ t)).1 = (sg_ms s).1 ∧ (sg_ms (s ++ t)).2.2 = (sg_ms s).2.2 + t.length := by
  rw [sg_ms_app, sg_ms_eq s, sg_sc_ne t _ _ _ h (cu_ge s).2]; exact ⟨rfl, rfl⟩
/-- a place before the end of the string lies before its end on the page -/
theorem cu_lt : ∀ (t s : List Nat), (sg_ms s).1 ≤ (sg_ms (s ++ t)).1 ∧ ((sg_ms s).1 = (sg_ms (s ++ t)).1 → (sg_ms s).2.2 + t.length = (sg_ms (s ++ t)).2.2)
  | [], s => by rw [List.append_nil]; simp
  | c :: t, s => by
    have e : s ++ c :: t = (s ++ [c]) ++ t := by rw [List.append_assoc]; rfl
    have a := cu_lt t (s ++ [c])
    rw [e]
    by_cases hc : c = 10
    · subst hc
      have b := sg_ms_n s
      omega
    · have b := sg_ms_ne s [c] (by intro d hd; rw [List.mem_singleton.mp hd]; exact hc)
      simp only [List.length_cons, List.length_nil] at *
      omega
theorem cu_at {S : List Nat} {i c : Nat} (h : S[i]? = some c) : S = S.take i ++ c :: S.drop (i + 1) := by
  obtain ⟨hi, e⟩ := List.getElem?_eq_some_iff.mp h
  rw [← e, List.getElem_cons_drop, List.take_append_drop]
theorem cu_c {S : List Nat} {i c : Nat} (h : S[i]? = some c) (hc : c ≠ 10) : (sg_ms (S.take i)).1 < (sg_ms S).1 ∨ ((sg_ms (S.take i)).1 = (sg_ms S).1 ∧ (sg_ms (S.take i)).2.2 < (sg_ms S).2.2) := by
  have e := cu_at h
  have a := cu_lt (c :: S.drop (i + 1)) (S.take i)
  rw [← e] at a
  simp only [List.length_cons] at a
  omega
theorem cu_n {S : List Nat} {i : Nat} (h : S[i]? = some 10) : (sg_ms (S.take i)).1 < (sg_ms S).1 := by
  have e := cu_at h
  have a := cu_lt (S.drop (i + 1)) (S.take i ++ [10])
  rw [List.append_assoc, show [10] ++ S.drop (i + 1) = 10 :: S.drop (i + 1) from rfl, ← e] at a
  have b := sg_ms_n (S.take i)
  omega
/-- the page S is as the runs R and the line ends say; v: the end of its last line too -/
def pg_P (S : List Nat) (R : List pr_R) (lE : Nat → Int32) (v : Prop) : Prop :=
  (∀ i c, S[i]? = some c → c ≠ 10 → (pr_lk R ((sg_ms (S.take i)).1 - 1) (sg_ms (S.take i)).2.2).getD 32 = c) ∧
  (∀ i, S[i]? = some 10 → lE ((sg_ms (S.take i)).1 - 1) = nI (sg_ms (S.take i)).2.2) ∧
  (v → lE ((sg_ms S).1 - 1) = nI (sg_ms S).2.2) ∧
  (∀ x, x ∈ R → x.1 + 1 < (sg_ms S).1 ∨ (x.1 + 1 = (sg_ms S).1 ∧ x.2.1 + x.2.2.length ≤ (sg_ms S).2.2))
theorem pg_0 (lE : Nat → Int32) : pg_P [] [] lE False :=
  ⟨fun i c h => by simp at h, fun i h => by simp at h, fun h => h.elim, fun x h => by simp at h⟩
theorem ta_lo {S T : List Nat} {i : Nat} (h : i < S.length) : (S ++ T)[i]? = S[i]? ∧ (S ++ T).take i = S.take i :=
  ⟨List.getElem?_append_left h, List.take_append_of_le_length (by omega)⟩
theorem ta_hi {S T : List Nat} {i : Nat} (h : S.length ≤ i) : (S ++ T)[i]? = T[i - S.length]? ∧ (S ++ T).take i = S ++ T.take (i - S.length) := by
  refine ⟨List.getElem?_append_right h, ?_⟩
  rw [List.take_append, List.take_of_length_le h]
theorem pg_nl {S : List Nat} {R : List pr_R} {lE : Nat → Int32} {v : Prop} (hv : v) (h : pg_P S R lE v) : pg_P (S ++ [10]) R lE False := by
  obtain ⟨h1, h2, h3, h4⟩ := h
  have e := sg_ms_n S
  refine ⟨fun i c hi hc => ?_, fun i hi => ?_, fun z => z.elim, fun x hx => by have := h4 x hx; omega⟩
  · by_cases q : i < S.length
    · obtain ⟨a, b⟩ := ta_lo (T := [10]) q
      rw [a] at hi; rw [b]; exact h1 i c hi hc
    · obtain ⟨a, b⟩ := ta_hi (T := [10]) (Nat.le_of_not_lt q)
      rw [a] at hi
      by_cases z : i - S.length = 0
      · rw [z] at hi; simp at hi; exact absurd hi.symm hc
      · rw [List.getElem?_eq_none (by simp only [List.length_cons, List.length_nil]; omega)] at hi
        exact absurd hi (by simp)
  · by_cases q : i < S.length
    · obtain ⟨a, b⟩ := ta_lo (T := [10]) q
      rw [a] at hi; rw [b]; exact h2 i hi
    · obtain ⟨a, b⟩ := ta_hi (T := [10]) (Nat.le_of_not_lt q)
      rw [a] at hi
      by_cases z : i - S.length = 0
      · rw [b, z]; simpa using h3 hv
      · rw [List.getElem?_eq_none (by simp only [List.length_cons, List.length_nil]; omega)] at hi
        exact absurd hi (by simp)
theorem pg_mark {S : List Nat} {R : List pr_R} {lE : Nat → Int32} {v : Prop} (h : pg_P S R lE v) : pg_P S R (upd lE ((sg_ms S).1 - 1) (nI (sg_ms S).2.2)) True := by
  obtain ⟨h1, h2, h3, h4⟩ := h
  refine ⟨h1, fun i hi => ?_, fun _ => pk_us, h4⟩
  have a := cu_n hi
  have b := cu_ge (S.take i)
  rw [pk_un (by omega)]
  exact h2 i hi
theorem pg_pad {S : List Nat} {R : List pr_R} {lE : Nat → Int32} {v : Prop} (n : Nat) (h : pg_P S R lE v) : pg_P (S ++ List.replicate n 32) R lE False := by
  obtain ⟨h1, h2, h3, h4⟩ := h
  have ne : ∀ m, ∀ c, c ∈ List.replicate m 32 → c ≠ 10 := fun m c hc => by rw [(List.mem_replicate.mp hc).2]; decide
  obtain ⟨e1, e2⟩ := sg_ms_ne S (List.replicate n 32) (ne n)
  refine ⟨fun i c hi hc => ?_, fun i hi => ?_, fun z => z.elim, fun x hx => by have := h4 x hx; rw [e1, e2]; omega⟩
  · by_cases q : i < S.length
    · obtain ⟨a, b⟩ := ta_lo (T := List.replicate n 32) q
      rw [a] at hi; rw [b]; exact h1 i c hi hc
    · obtain ⟨a, b⟩ := ta_hi (T := List.replicate n 32) (Nat.le_of_not_lt q)
      rw [a, List.getElem?_replicate] at hi
      by_cases z : i - S.length < n
      · rw [if_pos z] at hi
        obtain ⟨f1, f2⟩ := sg_ms_ne S ((List.replicate n 32).take (i - S.length)) (fun d hd => ne n d (List.mem_of_mem_take hd))
        rw [b, f1, f2, pr_lk_none R _ _ (fun x hx => by have := h4 x hx; have := cu_ge S; omega)]
        simpa using hi
      · rw [if_neg z] at hi; exact absurd hi (by simp)
  · by_cases q : i < S.length
    · obtain ⟨a, b⟩ := ta_lo (T := List.replicate n 32) q
      rw [a] at hi; rw [b]; exact h2 i hi
    · obtain ⟨a, b⟩ := ta_hi (T := List.replicate n 32) (Nat.le_of_not_lt q)
      rw [a, List.getElem?_replicate] at hi
      by_cases z : i - S.length < n
      · rw [if_pos z] at hi; simp at hi
      · rw [if_neg z] at hi; exact absurd hi (by simp)
theorem pg_put {S cs : List Nat} {R : List pr_R} {lE : Nat → Int32} {v : Prop} (hcs : ∀ c, c ∈ cs → c ≠ 10) (h : pg_P S R lE v) :
    pg_P (S ++ cs) (R ++ [((sg_ms S).1 - 1, (sg_ms S).2.2, cs)]) (upd lE ((sg_ms S).1 - 1) (nI ((sg_ms S).2.2 + cs.length))) True := by
  obtain ⟨h1, h2, h3, h4⟩ := h
  obtain ⟨e1, e2⟩ := sg_ms_ne S cs hcs
  have g := cu_ge S
  refine ⟨fun i c hi hc => ?_, fun i hi => ?_, fun _ => by rw [e1, e2]; exact pk_us, fun x hx => ?_⟩
  · by_cases q : i < S.length
    · obtain ⟨a, b⟩ := ta_lo (T := cs) q
      rw [a] at hi
      rw [b, pr_lk_app1]
      · exact h1 i c hi hc
      · have := cu_c hi hc
        have := cu_ge (S.take i)
        dsimp only
        omega
    · obtain ⟨a, b⟩ := ta_hi (T := cs) (Nat.le_of_not_lt q)
      rw [a] at hi
      obtain ⟨hl, _⟩ := List.getElem?_eq_some_iff.mp hi
      obtain ⟨f1, f2⟩ := sg_ms_ne S (cs.take (i - S.length)) (fun d hd => hcs d (List.mem_of_mem_take hd))
      rw [List.length_take, Nat.min_eq_left (by omega)] at f2
      rw [b, f1, f2, pr_lk_app2 R _ _ _ (fun x hx => by have := h4 x hx; omega)]
      rw [pr_lk, if_pos ⟨rfl, Nat.le_add_right _ _, by dsimp only; omega⟩]
      dsimp only
      rw [show (sg_ms S).2.2 + (i - S.length) - (sg_ms S).2.2 = i - S.length by omega, hi]
      rfl
  · by_cases q : i < S.length
    · obtain ⟨a, b⟩ := ta_lo (T := cs) q
      rw [a] at hi
      have := cu_n hi
      have := cu_ge (S.take i)
      rw [b, pk_un (by omega)]
      exact h2 i hi
    · obtain ⟨a, b⟩ := ta_hi (T := cs) (Nat.le_of_not_lt q)
      rw [a] at hi
      exact absurd rfl (hcs 10 (List.mem_of_getElem? hi))
  · rw [e1, e2]
    rcases List.mem_append.mp hx with hx | hx
    · have := h4 x hx; omega
    · rw [List.mem_singleton.mp hx]
      dsimp only
      omega
/-! what a task adds to the page -/
def pr_out (S : List Nat) (c : Nat) (s : List Nat) : List Nat := S ++ (List.replicate (c - (sg_ms S).2.2) 32 ++ sg_ind c s)
theorem pr_out_ms {S s : List Nat} {c : Nat} (h : (sg_ms S).2.2 ≤ c) : (sg_ms (pr_out S c s)).1 = (sg_ms S).1 + (sg_ms s).1 - 1 ∧ (sg_ms (pr_out S c s)).2.2 = c + (sg_ms s).2.2 := by
  have g := cu_ge S
  unfold pr_out
  rw [sg_ms_app, sg_sc_app, sg_ms_eq S, sg_sc_rep _ _ _ _ g.2]
  have e := sg_sc_ind ((sg_ms S).1 - 1) (max (sg_ms S).2.1 c) c s 1 0 0
  rw [show (1 + ((sg_ms S).1 - 1), max (max (sg_ms S).2.1 c) (c + 0), c + 0) = ((sg_ms S).1, max (sg_ms S).2.1 ((sg_ms S).2.2 + (c - (sg_ms S).2.2)), (sg_ms S).2.2 + (c - (sg_ms S).2.2)) by
    congr 1
    · omega
    · congr 1 <;> omega] at e
  rw [e]
  show (sg_ms s).1 + ((sg_ms S).1 - 1) = _ ∧ c + (sg_ms s).2.2 = _
  have := cu_ge s
  omega
theorem pr_out_ne {S s : List Nat} {c k : Nat} (h : (sg_ms S).2.2 ≤ c) : pr_out S (c + k) s = pr_out S c (List.replicate k 32 ++ sg_ind k s) := by
  unfold pr_out
  rw [sg_ind_app, sg_ind_rep, sg_ind_ind, ← List.append_assoc (List.replicate _ _), List.replicate_append_replicate]
  congr 3
  omega
theorem pr_out_be {S s t : List Nat} {c : Nat} (h : (sg_ms S).2.2 ≤ c) : pr_out (pr_out S c s) (c + (sg_ms s).2.2) t = pr_out S c (s ++ sg_ind (sg_ms s).2.2 t) := by
  have e := (pr_out_ms (s := s) h).2
  rw [pr_out, e, Nat.sub_self, List.replicate_zero, List.nil_append]
  unfold pr_out
  rw [sg_ind_app, sg_ind_ind, List.append_assoc, List.append_assoc]
theorem pr_out_ab {S s t : List Nat} {c : Nat} : pr_out (pr_out S c s ++ [10]) c t = pr_out S c (s ++ 10 :: t) := by
  rw [pr_out, (sg_ms_n _).2]
  unfold pr_out
  rw [sg_ind_app]
  simp only [sg_ind, List.append_assoc, Nat.sub_zero, if_true]
  rfl
theorem pr_out_fl {S s : List Nat} {c : Nat} : (pr_out S c s ++ [10]) ++ List.replicate c 32 = pr_out S c (s ++ [10]) := by
  have := pr_out_ab (S := S) (s := s) (t := []) (c := c)
  rw [← this]
  show _ = (pr_out S c s ++ [10]) ++ (List.replicate (c - (sg_ms (pr_out S c s ++ [10])).2.2) 32 ++ sg_ind c [])
  rw [(sg_ms_n _).2, Nat.sub_zero]
  simp [sg_ind]
theorem pr_out_tx {S cs : List Nat} {c : Nat} (h : ∀ x, x ∈ cs → x ≠ 10) : pr_out S c cs = (S ++ List.replicate (c - (sg_ms S).2.2) 32) ++ cs := by
  rw [pr_out, sg_ind_ne c cs h, List.append_assoc]
/-! tasks and the state of the choices -/
def tr_tk (β : Nat → Bool) : tr_T → Nat → Nat
  | .neg a, o => tr_tk β a o + 2
  | .pow a _, o => tr_tk β a o + 1
  | .add a b, o => tr_tk β a o + tr_tk β b (o + tr_cc a) + 1
  | .sub a b, o => tr_tk β a o + tr_tk β b (o + tr_cc a) + 1
  | .mul a b, o => (if β (o + tr_cc a + tr_cc b) = true then tr_tk β b (o + tr_cc a) else tr_tk β a o) + 1
  | _, _ => 1
theorem tr_tk_le (β : Nat → Bool) : ∀ t, tr_ok t → ∀ o, 1 ≤ tr_tk β t o ∧ tr_tk β t o + 1 ≤ 2 * tr_sz t := by
  refine tr_ind ?_ ?_ ?_ ?_ ?_ ?_
  · intro n o; simp only [tr_tk, tr_sz]; omega
  · intro a _ ih o; have := ih o; simp only [tr_tk, tr_sz]; omega
  · intro a k _ _ ih o; have := ih o; simp only [tr_tk, tr_sz]; omega
  · intro a b _ _ iha ihb o; have := iha o; have := ihb (o + tr_cc a); simp only [tr_tk, tr_sz]; omega
  · intro a b _ _ iha ihb o; have := iha o; have := ihb (o + tr_cc a); simp only [tr_tk, tr_sz]; omega
  · intro a b _ _ iha ihb o
    have := iha o; have := ihb (o + tr_cc a)
    simp only [tr_tk, tr_sz]
    by_cases h : β (o + tr_cc a + tr_cc b) = true
    · rw [if_pos h]; omega
    · rw [if_neg h]; omega
def tr_sf (β : Nat → Bool) : tr_T → Nat → Nat → Nat
  | .neg a, o, j => tr_sf β a o j
  | .pow a _, o, j => tr_sf β a o j
  | .add a b, o, j => if j < o + tr_cc a then tr_sf β a o j else tr_sf β b (o + tr_cc a) j
  | .sub a b, o, j => if j < o + tr_cc a then tr_sf β a o j else tr_sf β b (o + tr_cc a) j
  | .mul a b, o, j =>
    if j = o + tr_cc a + tr_cc b then (if β (o + tr_cc a + tr_cc b) = true then 2 else 1)
    else if β (o + tr_cc a + tr_cc b) = true then (if j < o + tr_cc a then 0 else tr_sf β b (o + tr_cc a) j)
    else (if j < o + tr_cc a then tr_sf β a o j else 0)
  | _, _, _ => 0
theorem tr_sf_sh (e : Nat) (β β' : Nat → Bool) : ∀ t, tr_ok t → ∀ o, (∀ j, o ≤ j → j < o + tr_cc t → β (e + j) = β' j) → ∀ j, tr_sf β t (e + o) (e + j) = tr_sf β' t o j := by
  refine tr_ind ?_ ?_ ?_ ?_ ?_ ?_
  · intro n o _ j; rfl
  · intro a _ ih o h j; exact ih o h j
  · intro a k _ _ ih o h j; exact ih o h j
  · intro a b _ _ iha ihb o h j
    simp only [tr_cc] at h
    simp only [tr_sf]
    rw [iha o (fun j h1 h2 => h j h1 (by omega)) j, show e + o + tr_cc a = e + (o + tr_cc a) by omega, ihb _ (fun j h1 h2 => h j (by omega) (by omega)) j]
    by_cases q : j < o + tr_cc a
    · rw [if_pos q, if_pos (by omega)]
    · rw [if_neg q, if_neg (by omega)]
  · intro a b _ _ iha ihb o h j
    simp only [tr_cc] at h
    simp only [tr_sf]
    rw [iha o (fun j h1 h2 => h j h1 (by omega)) j, show e + o + tr_cc a = e + (o + tr_cc a) by omega, ihb _ (fun j h1 h2 => h j (by omega) (by omega)) j]
    by_cases q : j < o + tr_cc a
    · rw [if_pos q, if_pos (by omega)]
    · rw [if_neg q, if_neg (by omega)]
  · intro a b _ _ iha ihb o h j
    simp only [tr_cc] at h
    simp only [tr_sf]
    rw [iha o (fun j h1 h2 => h j h1 (by omega)) j, show e + o + tr_cc a = e + (o + tr_cc a) by omega, ihb _ (fun j h1 h2 => h j (by omega) (by omega)) j, show e + (o + tr_cc a) + tr_cc b = e + (o + tr_cc a + tr_cc b) by omega, h (o + tr_cc a + tr_cc b) (by omega) (by omega)]
    by_cases q : j < o + tr_cc a
    · rw [if_pos (by omega : e + j < e + (o + tr_cc a)), if_pos q, if_pos (by omega : e + j < e + (o + tr_cc a)), if_pos q, if_neg (by omega : ¬ j = o + tr_cc a + tr_cc b), if_neg (by omega : ¬ e + j = e + (o + tr_cc a + tr_cc b))]
    · rw [if_neg (by omega : ¬ e + j < e + (o + tr_cc a)), if_neg q, if_neg (by omega : ¬ e + j < e + (o + tr_cc a)), if_neg q]
      by_cases z : j = o + tr_cc a + tr_cc b
      · rw [if_pos z, if_pos (by omega)]
      · rw [if_neg z, if_neg (by omega)]
end
section
theorem pk_tb {rk j : Nat} (hr : rk < 2 ^ 31) (hj : j < 31) : (((nI rk >>> (nI j &&& 31)) &&& 1) = 1) ↔ rk.testBit j = true := by
  have h : rk / 2 ^ j ≤ rk := Nat.div_le_self _ _
  rw [pk_shrN hr _ j (s_l j (by omega)), pk_andN (by omega) 1 (by decide)]
  have e := Nat.testBit_eq_decide_div_mod_eq (x := rk) (i := j)
  rw [e, decide_eq_true_iff]
  exact nI_eq (b := 1) (by omega) (by omega)
theorem rx_nd_z {nK nV nZ nS : Nat → Int32} : ∀ t, tr_ok t → ∀ s c o, rx_nd nK nV nZ nS t s c o → nZ (s + tr_sz t - 1) = nI (tr_sz t) := by
  refine tr_ind ?_ ?_ ?_ ?_ ?_ ?_
  · intro n s c o h; exact h.2.2.1
  · intro a _ _ s c o h; exact h.2.2.1
  · intro a k _ _ _ s c o h; exact h.2.2.2.1
  · intro a b _ _ _ _ s c o h; exact h.2.2.2.1
  · intro a b _ _ _ _ s c o h; exact h.2.2.2.1
  · intro a b _ _ _ _ s c o h; exact h.2.2.2.2.1
def pq_I (S : List Nat) (R : List pr_R) (v : Prop) (d : Nat) (ph rc dep : Int32) (lE rN rR rC nV nS pl : Nat → Int32) : Prop :=
  pg_P S R lE v ∧ ph = nI (sg_ms S).1 ∧ rc = nI R.length ∧ dep = nI d ∧ pr_at rN rR rC nV nS pl 0 R
theorem sf_two {f g F : Nat → Nat} {o x y : Nat} {st st1 st2 : Nat → Int32} (hF : ∀ j, F j = if j < o + x then f j else g j) (h1 : ∀ j, st1 j = if o ≤ j ∧ j < o + x then nI (f j) else st j) (h2 : ∀ j, st2 j = if o + x ≤ j ∧ j < o + x + y then nI (g j) else st1 j) :
    ∀ j, st2 j = if o ≤ j ∧ j < o + (x + y) then nI (F j) else st j := by
  intro j
  rw [h2 j, h1 j, hF j]
  by_cases a : o ≤ j
  · by_cases b : j < o + x
    · rw [if_neg (show ¬ (o + x ≤ j ∧ j < o + x + y) by omega), if_pos (show o ≤ j ∧ j < o + x by omega), if_pos (show o ≤ j ∧ j < o + (x + y) by omega), if_pos b]
    · by_cases c : j < o + x + y
      · rw [if_pos (show o + x ≤ j ∧ j < o + x + y by omega), if_pos (show o ≤ j ∧ j < o + (x + y) by omega), if_neg b]
      · rw [if_neg (show ¬ (o + x ≤ j ∧ j < o + x + y) by omega), if_neg (show ¬ (o ≤ j ∧ j < o + x) by omega), if_neg (show ¬ (o ≤ j ∧ j < o + (x + y)) by omega)]
  · rw [if_neg (show ¬ (o + x ≤ j ∧ j < o + x + y) by omega), if_neg (show ¬ (o ≤ j ∧ j < o + x) by omega), if_neg (show ¬ (o ≤ j ∧ j < o + (x + y)) by omega)]
theorem sf_mp {β : Nat → Bool} {a b : tr_T} {o : Nat} {st st2 : Nat → Int32} (h : β (o + tr_cc a + tr_cc b) = true) (h0 : ∀ j, o ≤ j → j < o + (tr_cc a + tr_cc b + 1) → st j = 0)
    (h2 : ∀ j, st2 j = if o + tr_cc a ≤ j ∧ j < o + tr_cc a + tr_cc b then nI (tr_sf β b (o + tr_cc a) j) else upd st (o + tr_cc a + tr_cc b) (nI 2) j) :
    ∀ j, st2 j = if o ≤ j ∧ j < o + (tr_cc a + tr_cc b + 1) then nI (tr_sf β (.mul a b) o j) else st j := by
  intro j
  rw [h2 j]
  simp only [tr_sf]
  rw [if_pos h, if_pos h]
  by_cases q : j = o + tr_cc a + tr_cc b
  · rw [if_neg (show ¬ (o + tr_cc a ≤ j ∧ j < o + tr_cc a + tr_cc b) by omega), if_pos (show o ≤ j ∧ j < o + (tr_cc a + tr_cc b + 1) by omega), if_pos q, q, pk_us]
  · rw [pk_un q, if_neg q]
    by_cases q1 : o + tr_cc a ≤ j ∧ j < o + tr_cc a + tr_cc b
    · rw [if_pos q1, if_pos (show o ≤ j ∧ j < o + (tr_cc a + tr_cc b + 1) by omega), if_neg (show ¬ j < o + tr_cc a by omega)]
    · rw [if_neg q1]
      by_cases q2 : o ≤ j ∧ j < o + (tr_cc a + tr_cc b + 1)
      · rw [if_pos q2, if_pos (show j < o + tr_cc a by omega), h0 j q2.1 q2.2]; rfl
      · rw [if_neg q2]
theorem sf_mn {β : Nat → Bool} {a b : tr_T} {o : Nat} {st st2 : Nat → Int32} (h : ¬ β (o + tr_cc a + tr_cc b) = true) (h0 : ∀ j, o ≤ j → j < o + (tr_cc a + tr_cc b + 1) → st j = 0)
    (h2 : ∀ j, st2 j = if o ≤ j ∧ j < o + tr_cc a then nI (tr_sf β a o j) else upd st (o + tr_cc a + tr_cc b) (nI 1) j) :
    ∀ j, st2 j = if o ≤ j ∧ j < o + (tr_cc a + tr_cc b + 1) then nI (tr_sf β (.mul a b) o j) else st j := by
  intro j
  rw [h2 j]
  simp only [tr_sf]
  rw [if_neg h, if_neg h]
  by_cases q : j = o + tr_cc a + tr_cc b
  · rw [if_neg (show ¬ (o ≤ j ∧ j < o + tr_cc a) by omega), if_pos (show o ≤ j ∧ j < o + (tr_cc a + tr_cc b + 1) by omega), if_pos q, q, pk_us]
  · rw [pk_un q, if_neg q]
    by_cases q1 : o ≤ j ∧ j < o + tr_cc a
    · rw [if_pos q1, if_pos (show o ≤ j ∧ j < o + (tr_cc a + tr_cc b + 1) by omega), if_pos q1.2]
    · rw [if_neg q1]
      by_cases q2 : o ≤ j ∧ j < o + (tr_cc a + tr_cc b + 1)
      · rw [if_pos q2, if_neg (show ¬ j < o + tr_cc a by omega), h0 j q2.1 q2.2]; rfl
      · rw [if_neg q2]
theorem nI_m1 {h : Nat} (h1 : 1 ≤ h) : nI h - 1 = nI (h - 1) := pk_sub (b := 1) h1
section
variable {kT kF kN kA kB kC sH sN sE nl cl hl doc nod chr cho mea sc ph pw rc dep : Int32} {dN dC dH dM nK nV nZ nS pl mH mW mL mR cH cW cL cR lE rN rR rC st tN tB tS : Nat → Int32}
theorem xt_push {Φ : SX → Prop} {d : Nat} {a b e : Int32} (hd : d < 80) (K : Φ (kT, kF, kN, kA, kB, kC, sH, sN, sE, nl, cl, hl, doc, nod, chr, cho, mea, sc, ph, pw, rc, nI (d + 1), dN, dC, dH, dM, nK, nV, nZ, nS, pl, mH, mW, mL, mR, cH, cW, cL, cR, lE, rN, rR, rC, st, upd tN d a, upd tB d b, upd tS d e)) : wpX_push Φ (kT, kF, kN, kA, kB, kC, sH, sN, sE, nl, cl, hl, doc, nod, chr, cho, mea, sc, ph, pw, rc, nI d, dN, dC, dH, dM, nK, nV, nZ, nS, pl, mH, mW, mL, mR, cH, cW, cL, cR, lE, rN, rR, rC, st, tN, tB, tS) a b e := by
  have c : (nI d).toNatClampNeg = d := nI_clamp (by omega)
  have hin : vp_in (nI d) 80 := vp_in_nI hd (by omega)
  exact And.intro hin <| nm_r (e' := upd tN d a) (by rw [c]) <| And.intro hin <| nm_r (e' := upd tB d b) (by rw [c]) <| And.intro hin <| nm_r (e' := upd tS d e) (by rw [c]) <| nm_r (nI_1 d) K
theorem xt_step {post : SX → Prop} {rk k n d : Nat} {nd b e : Int32} (hk : k < 80) (hd : d < 80) (h1 : tN d = nd) (h2 : tB d = b) (h3 : tS d = e)
    (H : ∀ Φ : SX → Prop, (∀ (ph' rc' dep' : Int32) (lE' rN' rR' rC' st' tN' tB' tS' : Nat → Int32), wX_print_24 post (nI rk) n (nI (k + 1)) kT kF kN kA kB kC sH sN sE nl cl hl doc nod chr cho mea sc ph' pw rc' dep' dN dC dH dM nK nV nZ nS pl mH mW mL mR cH cW cL cR lE' rN' rR' rC' st' tN' tB' tS' → Φ (kT, kF, kN, kA, kB, kC, sH, sN, sE, nl, cl, hl, doc, nod, chr, cho, mea, sc, ph', pw, rc', dep', dN, dC, dH, dM, nK, nV, nZ, nS, pl, mH, mW, mL, mR, cH, cW, cL, cR, lE', rN', rR', rC', st', tN', tB', tS')) → wpX_perform Φ (kT, kF, kN, kA, kB, kC, sH, sN, sE, nl, cl, hl, doc, nod, chr, cho, mea, sc, ph, pw, rc, nI d, dN, dC, dH, dM, nK, nV, nZ, nS, pl, mH, mW, mL, mR, cH, cW, cL, cR, lE, rN, rR, rC, st, tN, tB, tS) nd b e (nI rk)) : wX_print_24 post (nI rk) (n + 1) (nI k) kT kF kN kA kB kC sH sN sE nl cl hl doc nod chr cho mea sc ph pw rc (nI (d + 1)) dN dC dH dM nK nV nZ nS pl mH mW mL mR cH cW cL cR lE rN rR rC st tN tB tS := by
  have c : (nI d).toNatClampNeg = d := nI_clamp (by omega)
  have hin : vp_in (nI d) 80 := vp_in_nI hd (by omega)
  refine br_f (nI_ge (b := 80) hk (by omega)) <| br_f (nI_nle (by omega) (by omega)) <| nm_r (nI_pred d) <| And.intro hin <| And.intro hin <| And.intro hin ?_
  rw [c, h1, h2, h3]
  exact H _ (fun _ _ _ _ _ _ _ _ _ _ _ h => nm_r (nI_1 k) h)
theorem xt_p0 {Φ : SX → Prop} {rk : Nat} {nd b : Int32} (K : wX_perform_35 Φ nd (nI rk) b kT kF kN kA kB kC sH sN sE nl cl hl doc nod chr cho mea sc ph pw rc dep dN dC dH dM nK nV nZ nS pl mH mW mL mR cH cW cL cR lE rN rR rC st tN tB tS) : wpX_perform Φ (kT, kF, kN, kA, kB, kC, sH, sN, sE, nl, cl, hl, doc, nod, chr, cho, mea, sc, ph, pw, rc, dep, dN, dC, dH, dM, nK, nV, nZ, nS, pl, mH, mW, mL, mR, cH, cW, cL, cR, lE, rN, rR, rC, st, tN, tB, tS) nd b 0 (nI rk) :=
  br_f (by decide) <| br_f (by decide) K
theorem xt_p1 {Φ : SX → Prop} {rk h : Nat} {nd b : Int32} (K : wX_perform_35 Φ nd (nI rk) b kT kF kN kA kB kC sH sN sE nl cl hl doc nod chr cho mea sc (nI (h + 1)) pw rc dep dN dC dH dM nK nV nZ nS pl mH mW mL mR cH cW cL cR lE rN rR rC st tN tB tS) : wpX_perform Φ (kT, kF, kN, kA, kB, kC, sH, sN, sE, nl, cl, hl, doc, nod, chr, cho, mea, sc, nI h, pw, rc, dep, dN, dC, dH, dM, nK, nV, nZ, nS, pl, mH, mW, mL, mR, cH, cW, cL, cR, lE, rN, rR, rC, st, tN, tB, tS) nd b 1 (nI rk) :=
  br_t rfl <| nm_r (nI_1 h) <| br_f (by decide) K
theorem xt_p2 {Φ : SX → Prop} {rk h c : Nat} {nd b : Int32} (h1 : 1 ≤ h) (h40 : h ≤ 40) (hle : lE (h - 1) = nI c) (K : wX_perform_35 Φ nd (nI rk) (nI c) kT kF kN kA kB kC sH sN sE nl cl hl doc nod chr cho mea sc (nI h) pw rc dep dN dC dH dM nK nV nZ nS pl mH mW mL mR cH cW cL cR lE rN rR rC st tN tB tS) : wpX_perform Φ (kT, kF, kN, kA, kB, kC, sH, sN, sE, nl, cl, hl, doc, nod, chr, cho, mea, sc, nI h, pw, rc, dep, dN, dC, dH, dM, nK, nV, nZ, nS, pl, mH, mW, mL, mR, cH, cW, cL, cR, lE, rN, rR, rC, st, tN, tB, tS) nd b 2 (nI rk) := by
  have e : nI h - 1 = nI (h - 1) := nI_m1 h1
  have cl' : (nI h - 1).toNatClampNeg = h - 1 := by rw [e]; exact nI_clamp (by omega)
  refine br_f (by decide) <| br_t rfl <| And.intro (by rw [e]; exact vp_in_nI (by omega) (by omega)) ?_
  rw [cl', hle]
  exact K
theorem xt_perf {post : SX → Prop} {χ : Nat → Nat} {rk : Nat} (hrk : rk < 2 ^ 31) (hχ : ∀ i, χ i ≠ 10) : ∀ t, tr_ok t → ∀ (s co o : Nat), rx_nd nK nV nZ nS t s co o → (∀ i, co ≤ i → i < co + tr_nc t → pl i = nI (χ i)) → s + tr_sz t ≤ 40 → co + tr_nc t ≤ 64 → o + tr_cc t ≤ 6 →
    ∀ (Φ : SX → Prop) (S : List Nat) (R : List pr_R) (v : Prop) (c d k n : Nat) (ph rc dep : Int32) (lE rN rR rC st tN tB tS : Nat → Int32),
    (∀ (ph' rc' dep' : Int32) (lE' rN' rR' rC' st' tN' tB' tS' : Nat → Int32), wX_print_24 post (nI rk) (n + (tr_tk (fun j => rk.testBit j) t o - 1)) (nI (k + 1)) kT kF kN kA kB kC sH sN sE nl cl hl doc nod chr cho mea sc ph' pw rc' dep' dN dC dH dM nK nV nZ nS pl mH mW mL mR cH cW cL cR lE' rN' rR' rC' st' tN' tB' tS' → Φ (kT, kF, kN, kA, kB, kC, sH, sN, sE, nl, cl, hl, doc, nod, chr, cho, mea, sc, ph', pw, rc', dep', dN, dC, dH, dM, nK, nV, nZ, nS, pl, mH, mW, mL, mR, cH, cW, cL, cR, lE', rN', rR', rC', st', tN', tB', tS')) →
    pq_I S R v d ph rc dep lE rN rR rC nV nS pl → (sg_ms S).2.2 ≤ c → c + 1000 * tr_sz t ≤ 100000 → (sg_ms S).1 + tr_sz t ≤ 41 → R.length + tr_sz t ≤ 40 → d + 2 * tr_sz t ≤ 80 → k + tr_tk (fun j => rk.testBit j) t o ≤ 80 →
    (∀ j, o ≤ j → j < o + tr_cc t → st j = 0) →
    (∀ (R' : List pr_R) (ph' rc' dep' : Int32) (lE' rN' rR' rC' st' tN' tB' tS' : Nat → Int32), pq_I (pr_out S c (tr_str χ (fun j => rk.testBit j) t co o)) R' True d ph' rc' dep' lE' rN' rR' rC' nV nS pl → R'.length ≤ R.length + tr_sz t → (∀ j, j < d → tN' j = tN j ∧ tB' j = tB j ∧ tS' j = tS j) →
      (∀ j, st' j = if o ≤ j ∧ j < o + tr_cc t then nI (tr_sf (fun j => rk.testBit j) t o j) else st j) → wX_print_24 post (nI rk) n (nI (k + tr_tk (fun j => rk.testBit j) t o)) kT kF kN kA kB kC sH sN sE nl cl hl doc nod chr cho mea sc ph' pw rc' dep' dN dC dH dM nK nV nZ nS pl mH mW mL mR cH cW cL cR lE' rN' rR' rC' st' tN' tB' tS') →
    wX_perform_35 Φ (nI (s + tr_sz t - 1)) (nI rk) (nI c) kT kF kN kA kB kC sH sN sE nl cl hl doc nod chr cho mea sc ph pw rc dep dN dC dH dM nK nV nZ nS pl mH mW mL mR cH cW cL cR lE rN rR rC st tN tB tS := by
  refine tr_ind ?_ ?_ ?_ ?_ ?_ ?_
  · -- text
    intro n s co o hnd hpl hs hco ho Φ S R v c d k fu ph rc dep lE rN rR rC st tN tB tS HΦ hI hc hcb hh hR hd hk hst K
    obtain ⟨hp, rfl, rfl, rfl, hr⟩ := hI
    obtain ⟨g1, g2, g3, g4⟩ := hnd
    simp only [tr_sz, tr_nc, tr_cc] at hs hco ho hcb hh hR hd hpl K ⊢
    have hg := cu_ge S
    have ns : s + 1 - 1 = s := by omega
    rw [ns]
    have cR : (nI R.length).toNatClampNeg = R.length := nI_clamp (by omega)
    have hRn : vp_in (nI R.length) 40 := vp_in_nI (by omega) (by omega)
    have cs : (nI s).toNatClampNeg = s := nI_clamp (by omega)
    have hsn : vp_in (nI s) 40 := vp_in_nI (by omega) (by omega)
    have eh : nI (sg_ms S).1 - 1 = nI ((sg_ms S).1 - 1) := nI_m1 hg.1
    have ch : (nI (sg_ms S).1 - 1).toNatClampNeg = (sg_ms S).1 - 1 := by rw [eh]; exact nI_clamp (by omega)
    have hhn : vp_in (nI (sg_ms S).1 - 1) 40 := by rw [eh]; exact vp_in_nI (by omega) (by omega)
    have ef : fu + (tr_tk (fun j => rk.testBit j) (.var n) o - 1) = fu := rfl
    rw [ef] at HΦ
    have hcs : ∀ x, x ∈ tr_str χ (fun j => rk.testBit j) (.var n) co o → x ≠ 10 := by
      intro x hx
      obtain ⟨i, _, rfl⟩ := List.mem_map.mp hx
      exact hχ _
    have lcs : (tr_str χ (fun j => rk.testBit j) (.var n) co o).length = n := by simp [tr_str]
    have hpg := pg_put (cs := tr_str χ (fun j => rk.testBit j) (.var n) co o) hcs (pg_pad (c - (sg_ms S).2.2) hp)
    have pe := sg_ms_ne S (List.replicate (c - (sg_ms S).2.2) 32) (fun x hx => by rw [(List.mem_replicate.mp hx).2]; decide)
    rw [List.length_replicate, show (sg_ms S).2.2 + (c - (sg_ms S).2.2) = c by omega] at pe
    rw [pe.1, pe.2, ← pr_out_tx hcs, lcs] at hpg
    refine br_t (nI_pos' (by omega)) <| And.intro hsn <| br_t (by rw [cs, g1]; rfl) <|
      And.intro hRn <| nm_r (e' := upd rN R.length (nI s)) (by rw [cR]) <| And.intro hRn <| nm_r (e' := upd rR R.length (nI ((sg_ms S).1 - 1))) (by rw [cR, eh]) <| And.intro hRn <| nm_r (e' := upd rC R.length (nI c)) (by rw [cR]) <|
      nm_r (nI_1 R.length) <| And.intro hsn <| And.intro hhn <| nm_r (e' := upd lE ((sg_ms S).1 - 1) (nI (c + n))) (by rw [ch, cs, g2, nI_add]) <| HΦ _ _ _ _ _ _ _ _ _ _ _ ?_
    refine K (R ++ [((sg_ms S).1 - 1, c, tr_str χ (fun j => rk.testBit j) (.var n) co o)]) _ _ _ _ _ _ _ _ _ _ _ ⟨hpg, ?_, ?_, rfl, ?_⟩ ?_ (fun j _ => ⟨rfl, rfl, rfl⟩) (fun j => ?_)
    · have ms1 : sg_ms (tr_str χ (fun j => rk.testBit j) (.var n) co o) = (1, n, n) := tr_str_ms χ _ hχ (.var n) trivial co o
      rw [(pr_out_ms hc).1, ms1]; rfl
    · rw [List.length_append]; rfl
    · refine pr_snoc R 0 _ (pr_cg R 0 (fun j _ hj => ⟨pk_un (by omega), pk_un (by omega), pk_un (by omega)⟩) hr) ?_
      rw [Nat.zero_add]
      refine ⟨pk_us, pk_us, by dsimp only; omega, by dsimp only; omega, s, co, by omega, by dsimp only; rw [lcs]; omega, pk_us, by dsimp only; rw [lcs]; exact g2, g4, ?_⟩
      refine al_of _ _ (fun j x hj => ?_)
      dsimp only at hj
      obtain ⟨hl, e⟩ := List.getElem?_eq_some_iff.mp hj
      rw [lcs] at hl
      simp only [tr_str, List.getElem_map, List.getElem_range] at e
      rw [← e]
      exact hpl _ (by omega) (by omega)
    · rw [List.length_append]; simp
    · have q : ¬ (o ≤ j ∧ j < o + 0) := by omega
      exact (if_neg q).symm
  · -- flush
    intro a ha ih s co o hnd hpl hs hco ho Φ S R v c d k fu ph rc dep lE rN rR rC st tN tB tS HΦ hI hc hcb hh hR hd hk hst K
    obtain ⟨hp, rfl, rfl, rfl, hr⟩ := hI
    obtain ⟨g0, g1, g3, g4⟩ := hnd
    simp only [tr_sz, tr_nc, tr_cc, tr_tk] at hs hco ho hcb hh hR hd hk hpl K HΦ hst ⊢
    have hz := tr_sz_pos a
    have tk := tr_tk_le (fun j => rk.testBit j) a ha o
    have ns : s + (tr_sz a + 1) - 1 = s + tr_sz a := by omega
    rw [ns]
    have cs : (nI (s + tr_sz a)).toNatClampNeg = s + tr_sz a := nI_clamp (by omega)
    have hsn : vp_in (nI (s + tr_sz a)) 40 := vp_in_nI (by omega) (by omega)
    have msb := tr_ms_bd (fun j => rk.testBit j) a ha o
    have mse := tr_str_ms χ (fun j => rk.testBit j) hχ a ha co o
    refine br_t (nI_pos' (by omega)) <| And.intro hsn <| br_f (by rw [cs, g1]; decide) <|
      And.intro hsn <| nm_r (e' := nI 1) (by rw [cs, g1]) <| nm_r (e' := nI (s + tr_sz a - 1)) (nI_m1 (by omega)) <| And.intro (vp_in_nI (by omega) (by omega)) <| nm_e <| br_t rfl <|
      xt_push (by omega) <| xt_push (by omega) <| HΦ _ _ _ _ _ _ _ _ _ _ _ ?_
    rw [show fu + (tr_tk (fun j => rk.testBit j) a o + 2 - 1) = (fu + tr_tk (fun j => rk.testBit j) a o) + 1 by omega]
    refine xt_step (by omega) (by omega) pk_us pk_us pk_us fun Φ' HΦ' => xt_p0 ?_
    refine ih s co o g0 hpl (by omega) hco ho Φ' S R v c (d + 1) (k + 1) (fu + 1) _ _ _ _ _ _ _ _ _ _ _ (by rw [show fu + 1 + (tr_tk (fun j => rk.testBit j) a o - 1) = fu + tr_tk (fun j => rk.testBit j) a o by omega]; exact HΦ') ⟨hp, rfl, rfl, rfl, hr⟩ hc (by omega) (by omega) (by omega) (by omega) (by omega) hst ?_
    intro R' ph' rc' dep' lE' rN' rR' rC' st' tN' tB' tS' hI' hlen htk hst'
    obtain ⟨hp', rfl, rfl, rfl, hr'⟩ := hI'
    obtain ⟨t1, t2, t3⟩ := htk d (by omega)
    have po := pr_out_ms (s := tr_str χ (fun j => rk.testBit j) a co o) hc
    rw [mse] at po
    dsimp only at po
    generalize hS1 : pr_out S c (tr_str χ (fun j => rk.testBit j) a co o) = S1 at *
    have hg := cu_ge S1
    refine xt_step (by omega) (by omega) (t1.trans ((pk_un (by omega)).trans pk_us)) (t2.trans ((pk_un (by omega)).trans pk_us)) (t3.trans ((pk_un (by omega)).trans pk_us)) fun Φ2 HΦ2 => xt_p1 ?_
    have eh : nI ((sg_ms S1).1 + 1) - 1 = nI (sg_ms S1).1 := nI_pred _
    have ch : (nI ((sg_ms S1).1 + 1) - 1).toNatClampNeg = (sg_ms S1).1 := by rw [eh]; exact nI_clamp (by omega)
    refine br_f (by decide) <| And.intro (by rw [eh]; exact vp_in_nI (by omega) (by omega)) <| nm_r (e' := upd lE' (sg_ms S1).1 (nI c)) (by rw [ch]) <| HΦ2 _ _ _ _ _ _ _ _ _ _ _ ?_
    rw [show k + 1 + tr_tk (fun j => rk.testBit j) a o + 1 = k + (tr_tk (fun j => rk.testBit j) a o + 2) by omega]
    have fin : pg_P ((S1 ++ [10]) ++ List.replicate c 32) R' (upd lE' (sg_ms S1).1 (nI c)) True := by
      have q := pg_mark (pg_pad c (pg_nl trivial hp'))
      have pe := sg_ms_ne (S1 ++ [10]) (List.replicate c 32) (fun x hx => by rw [(List.mem_replicate.mp hx).2]; decide)
      have pn := sg_ms_n S1
      rw [List.length_replicate] at pe
      rw [pe.1, pe.2, pn.1, pn.2, Nat.add_sub_cancel, Nat.zero_add] at q
      exact q
    have fin1 : (sg_ms ((S1 ++ [10]) ++ List.replicate c 32)).1 = (sg_ms S1).1 + 1 := by
      have pe := sg_ms_ne (S1 ++ [10]) (List.replicate c 32) (fun x hx => by rw [(List.mem_replicate.mp hx).2]; decide)
      have pn := sg_ms_n S1
      omega
    have eS : (S1 ++ [10]) ++ List.replicate c 32 = pr_out S c (tr_str χ (fun j => rk.testBit j) (.neg a) co o) := by rw [← hS1]; exact pr_out_fl
    rw [eS] at fin fin1
    refine K R' _ _ _ _ _ _ _ _ _ _ _ ⟨fin, by rw [fin1], rfl, rfl, hr'⟩ (by omega) (fun j hj => ?_) hst'
    obtain ⟨u1, u2, u3⟩ := htk j (by omega)
    exact ⟨u1.trans ((pk_un (by omega)).trans (pk_un (by omega))), u2.trans ((pk_un (by omega)).trans (pk_un (by omega))), u3.trans ((pk_un (by omega)).trans (pk_un (by omega)))⟩
  · -- nest
    intro a kn ha hkn ih s co o hnd hpl hs hco ho Φ S R v c d k fu ph rc dep lE rN rR rC st tN tB tS HΦ hI hc hcb hh hR hd hk hst K
    obtain ⟨hp, rfl, rfl, rfl, hr⟩ := hI
    obtain ⟨g0, g1, g2, g3, g4⟩ := hnd
    simp only [tr_sz, tr_nc, tr_cc, tr_tk] at hs hco ho hcb hh hR hd hk hpl K HΦ hst ⊢
    have hz := tr_sz_pos a
    have tk := tr_tk_le (fun j => rk.testBit j) a ha o
    have ns : s + (tr_sz a + 1) - 1 = s + tr_sz a := by omega
    rw [ns]
    have cs : (nI (s + tr_sz a)).toNatClampNeg = s + tr_sz a := nI_clamp (by omega)
    have hsn : vp_in (nI (s + tr_sz a)) 40 := vp_in_nI (by omega) (by omega)
    refine br_t (nI_pos' (by omega)) <| And.intro hsn <| br_f (by rw [cs, g1]; decide) <|
      And.intro hsn <| nm_r (e' := nI 2) (by rw [cs, g1]) <| nm_r (e' := nI (s + tr_sz a - 1)) (nI_m1 (by omega)) <| And.intro (vp_in_nI (by omega) (by omega)) <| nm_e <| br_f (by decide) <| br_t rfl <| And.intro hsn <|
      xt_push (by omega) <| HΦ _ _ _ _ _ _ _ _ _ _ _ ?_
    rw [show fu + (tr_tk (fun j => rk.testBit j) a o + 1 - 1) = (fu + (tr_tk (fun j => rk.testBit j) a o - 1)) + 1 by omega, cs, g2, nI_add]
    refine xt_step (by omega) (by omega) pk_us pk_us pk_us fun Φ' HΦ' => xt_p0 ?_
    refine ih s co o g0 hpl (by omega) hco ho Φ' S R v (c + kn) d (k + 1) fu _ _ _ _ _ _ _ _ _ _ _ HΦ' ⟨hp, rfl, rfl, rfl, hr⟩ (by omega) (by omega) (by omega) (by omega) (by omega) (by omega) hst ?_
    intro R' ph' rc' dep' lE' rN' rR' rC' st' tN' tB' tS' hI' hlen htk hst'
    rw [show k + 1 + tr_tk (fun j => rk.testBit j) a o = k + (tr_tk (fun j => rk.testBit j) a o + 1) by omega]
    rw [pr_out_ne hc] at hI'
    refine K R' _ _ _ _ _ _ _ _ _ _ _ hI' (by omega) (fun j hj => ?_) hst'
    obtain ⟨u1, u2, u3⟩ := htk j hj
    exact ⟨u1.trans (pk_un (by omega)), u2.trans (pk_un (by omega)), u3.trans (pk_un (by omega))⟩
  · -- beside
    intro a b ha hb iha ihb s co o hnd hpl hs hco ho Φ S R v c d k fu ph rc dep lE rN rR rC st tN tB tS HΦ hI hc hcb hh hR hd hk hst K
    obtain ⟨hp, rfl, rfl, rfl, hr⟩ := hI
    obtain ⟨ga, gb, g1, g3, g4⟩ := hnd
    simp only [tr_sz, tr_nc, tr_cc, tr_tk] at hs hco ho hcb hh hR hd hk hpl K HΦ hst ⊢
    have hza := tr_sz_pos a
    have hzb := tr_sz_pos b
    have tka := tr_tk_le (fun j => rk.testBit j) a ha o
    have tkb := tr_tk_le (fun j => rk.testBit j) b hb (o + tr_cc a)
    have zb := rx_nd_z b hb _ _ _ gb
    rw [show s + tr_sz a + tr_sz b - 1 = s + (tr_sz a + tr_sz b) - 1 by omega] at zb
    have ns : s + (tr_sz a + tr_sz b + 1) - 1 = s + (tr_sz a + tr_sz b) := by omega
    rw [ns]
    have cs : (nI (s + (tr_sz a + tr_sz b))).toNatClampNeg = s + (tr_sz a + tr_sz b) := nI_clamp (by omega)
    have cs5 : (nI (s + (tr_sz a + tr_sz b) - 1)).toNatClampNeg = s + (tr_sz a + tr_sz b) - 1 := nI_clamp (by omega)
    have hsn : vp_in (nI (s + (tr_sz a + tr_sz b))) 40 := vp_in_nI (by omega) (by omega)
    have msb := tr_ms_bd (fun j => rk.testBit j) a ha o
    have mse := tr_str_ms χ (fun j => rk.testBit j) hχ a ha co o
    generalize hta : tr_tk (fun j => rk.testBit j) a o = ta at *
    generalize htb : tr_tk (fun j => rk.testBit j) b (o + tr_cc a) = tb at *
    refine br_t (nI_pos' (by omega)) <| And.intro hsn <| br_f (by rw [cs, g1]; decide) <|
      And.intro hsn <| nm_r (e' := nI 4) (by rw [cs, g1]) <| nm_r (e' := nI (s + (tr_sz a + tr_sz b) - 1)) (nI_m1 (by omega)) <| And.intro (vp_in_nI (by omega) (by omega)) <|
      nm_r (e' := nI (s + tr_sz a - 1)) (by rw [cs5, zb, pk_sub (by omega)]; exact congrArg nI (by omega)) <| br_f (by decide) <| br_f (by decide) <| br_f (by decide) <| br_f (by decide) <|
      xt_push (by omega) <| xt_push (by omega) <| HΦ _ _ _ _ _ _ _ _ _ _ _ ?_
    rw [show fu + (ta + tb + 1 - 1) = (fu + tb + (ta - 1)) + 1 by omega]
    refine xt_step (by omega) (by omega) pk_us pk_us pk_us fun Φ' HΦ' => xt_p0 ?_
    refine iha s co o ga (fun i h1 h2 => hpl i h1 (by omega)) (by omega) (by omega) (by omega) Φ' S R v c (d + 1) (k + 1) (fu + tb) _ _ _ _ _ _ _ _ _ _ _ (by rw [hta]; exact HΦ') ⟨hp, rfl, rfl, rfl, hr⟩ hc (by omega) (by omega) (by omega) (by omega) (by omega) (fun j h1 h2 => hst j h1 (by omega)) ?_
    intro R' ph' rc' dep' lE' rN' rR' rC' st' tN' tB' tS' hI' hlen htk hst'
    obtain ⟨hp', rfl, rfl, rfl, hr'⟩ := hI'
    obtain ⟨t1, t2, t3⟩ := htk d (by omega)
    have po := pr_out_ms (s := tr_str χ (fun j => rk.testBit j) a co o) hc
    have pb := fun t => pr_out_be (s := tr_str χ (fun j => rk.testBit j) a co o) (t := t) hc
    have ets : tr_str χ (fun j => rk.testBit j) (.add a b) co o = tr_str χ (fun j => rk.testBit j) a co o ++ sg_ind (sg_ms (tr_str χ (fun j => rk.testBit j) a co o)).2.2 (tr_str χ (fun j => rk.testBit j) b (co + tr_nc a) (o + tr_cc a)) := rfl
    rw [ets] at K
    generalize hLa : (sg_ms (tr_str χ (fun j => rk.testBit j) a co o)).2.2 = la at *
    have lab : la ≤ tr_nc a + 15 * tr_sz a := by rw [← hLa, mse]; dsimp only; omega
    have hab : (sg_ms (tr_str χ (fun j => rk.testBit j) a co o)).1 ≤ tr_sz a := by rw [mse]; dsimp only; omega
    generalize hS1 : pr_out S c (tr_str χ (fun j => rk.testBit j) a co o) = S1 at *
    have hg := cu_ge S1
    have hlE := hp'.2.2.1 trivial
    rw [po.2] at hlE
    rw [hta, show fu + tb = (fu + (tb - 1)) + 1 by omega]
    refine xt_step (by omega) (by omega) (t1.trans ((pk_un (by omega)).trans pk_us)) (t2.trans ((pk_un (by omega)).trans pk_us)) (t3.trans ((pk_un (by omega)).trans pk_us)) fun Φ2 HΦ2 => xt_p2 hg.1 (by omega) hlE ?_
    have nb : s + (tr_sz a + tr_sz b) - 1 = s + tr_sz a + tr_sz b - 1 := by omega
    rw [nb]
    refine ihb (s + tr_sz a) (co + tr_nc a) (o + tr_cc a) gb (fun i h1 h2 => hpl i (by omega) (by omega)) (by omega) (by omega) (by omega) Φ2 S1 R' True (c + la) d (k + 1 + ta) fu _ _ _ _ _ _ _ _ _ _ _ (by rw [htb]; exact HΦ2) ⟨hp', rfl, rfl, rfl, hr'⟩ (by omega) (by omega) (by omega) (by omega) (by omega) (by omega) ?_ ?_
    · intro j h1 h2
      rw [hst' j, if_neg (by omega)]
      exact hst j (by omega) (by omega)
    intro R2 ph2 rc2 dep2 lE2 rN2 rR2 rC2 st2 tN2 tB2 tS2 hI2 hlen2 htk2 hst2
    rw [pb] at hI2
    rw [htb, show k + 1 + ta + tb = k + (ta + tb + 1) by omega]
    refine K R2 _ _ _ _ _ _ _ _ _ _ _ hI2 (by omega) (fun j hj => ?_) (fun j => ?_)
    · obtain ⟨u1, u2, u3⟩ := htk j (by omega)
      obtain ⟨w1, w2, w3⟩ := htk2 j hj
      exact ⟨w1.trans (u1.trans ((pk_un (by omega)).trans (pk_un (by omega)))), w2.trans (u2.trans ((pk_un (by omega)).trans (pk_un (by omega)))), w3.trans (u3.trans ((pk_un (by omega)).trans (pk_un (by omega))))⟩
    · exact sf_two (fun _ => rfl) hst' hst2 j
  · -- above
    intro a b ha hb iha ihb s co o hnd hpl hs hco ho Φ S R v c d k fu ph rc dep lE rN rR rC st tN tB tS HΦ hI hc hcb hh hR hd hk hst K
    obtain ⟨hp, rfl, rfl, rfl, hr⟩ := hI
    obtain ⟨ga, gb, g1, g3, g4⟩ := hnd
    simp only [tr_sz, tr_nc, tr_cc, tr_tk] at hs hco ho hcb hh hR hd hk hpl K HΦ hst ⊢
    have hza := tr_sz_pos a
    have hzb := tr_sz_pos b
    have tka := tr_tk_le (fun j => rk.testBit j) a ha o
    have tkb := tr_tk_le (fun j => rk.testBit j) b hb (o + tr_cc a)
    have zb := rx_nd_z b hb _ _ _ gb
    rw [show s + tr_sz a + tr_sz b - 1 = s + (tr_sz a + tr_sz b) - 1 by omega] at zb
    have ns : s + (tr_sz a + tr_sz b + 1) - 1 = s + (tr_sz a + tr_sz b) := by omega
    rw [ns]
    have cs : (nI (s + (tr_sz a + tr_sz b))).toNatClampNeg = s + (tr_sz a + tr_sz b) := nI_clamp (by omega)
    have cs5 : (nI (s + (tr_sz a + tr_sz b) - 1)).toNatClampNeg = s + (tr_sz a + tr_sz b) - 1 := nI_clamp (by omega)
    have hsn : vp_in (nI (s + (tr_sz a + tr_sz b))) 40 := vp_in_nI (by omega) (by omega)
    have msb := tr_ms_bd (fun j => rk.testBit j) a ha o
    have mse := tr_str_ms χ (fun j => rk.testBit j) hχ a ha co o
    generalize hta : tr_tk (fun j => rk.testBit j) a o = ta at *
    generalize htb : tr_tk (fun j => rk.testBit j) b (o + tr_cc a) = tb at *
    refine br_t (nI_pos' (by omega)) <| And.intro hsn <| br_f (by rw [cs, g1]; decide) <|
      And.intro hsn <| nm_r (e' := nI 3) (by rw [cs, g1]) <| nm_r (e' := nI (s + (tr_sz a + tr_sz b) - 1)) (nI_m1 (by omega)) <| And.intro (vp_in_nI (by omega) (by omega)) <|
      nm_r (e' := nI (s + tr_sz a - 1)) (by rw [cs5, zb, pk_sub (by omega)]; exact congrArg nI (by omega)) <| br_f (by decide) <| br_f (by decide) <| br_f (by decide) <| br_t rfl <|
      xt_push (by omega) <| xt_push (by omega) <| HΦ _ _ _ _ _ _ _ _ _ _ _ ?_
    rw [show fu + (ta + tb + 1 - 1) = (fu + tb + (ta - 1)) + 1 by omega]
    refine xt_step (by omega) (by omega) pk_us pk_us pk_us fun Φ' HΦ' => xt_p0 ?_
    refine iha s co o ga (fun i h1 h2 => hpl i h1 (by omega)) (by omega) (by omega) (by omega) Φ' S R v c (d + 1) (k + 1) (fu + tb) _ _ _ _ _ _ _ _ _ _ _ (by rw [hta]; exact HΦ') ⟨hp, rfl, rfl, rfl, hr⟩ hc (by omega) (by omega) (by omega) (by omega) (by omega) (fun j h1 h2 => hst j h1 (by omega)) ?_
    intro R' ph' rc' dep' lE' rN' rR' rC' st' tN' tB' tS' hI' hlen htk hst'
    obtain ⟨hp', rfl, rfl, rfl, hr'⟩ := hI'
    obtain ⟨t1, t2, t3⟩ := htk d (by omega)
    have po := pr_out_ms (s := tr_str χ (fun j => rk.testBit j) a co o) hc
    have pb := fun t => pr_out_ab (S := S) (s := tr_str χ (fun j => rk.testBit j) a co o) (t := t) (c := c)
    have ets : tr_str χ (fun j => rk.testBit j) (.sub a b) co o = tr_str χ (fun j => rk.testBit j) a co o ++ 10 :: (tr_str χ (fun j => rk.testBit j) b (co + tr_nc a) (o + tr_cc a)) := rfl
    rw [ets] at K
    have hab : (sg_ms (tr_str χ (fun j => rk.testBit j) a co o)).1 ≤ tr_sz a := by rw [mse]; dsimp only; omega
    generalize hS1 : pr_out S c (tr_str χ (fun j => rk.testBit j) a co o) = S1 at *
    have hg := cu_ge S1
    have pn := sg_ms_n S1
    rw [hta, show fu + tb = (fu + (tb - 1)) + 1 by omega]
    refine xt_step (by omega) (by omega) (t1.trans ((pk_un (by omega)).trans pk_us)) (t2.trans ((pk_un (by omega)).trans pk_us)) (t3.trans ((pk_un (by omega)).trans pk_us)) fun Φ2 HΦ2 => xt_p1 ?_
    have nb : s + (tr_sz a + tr_sz b) - 1 = s + tr_sz a + tr_sz b - 1 := by omega
    rw [nb]
    refine ihb (s + tr_sz a) (co + tr_nc a) (o + tr_cc a) gb (fun i h1 h2 => hpl i (by omega) (by omega)) (by omega) (by omega) (by omega) Φ2 (S1 ++ [10]) R' False c d (k + 1 + ta) fu _ _ _ _ _ _ _ _ _ _ _ (by rw [htb]; exact HΦ2) ⟨pg_nl trivial hp', by rw [pn.1], rfl, rfl, hr'⟩ (by omega) (by omega) (by omega) (by omega) (by omega) (by omega) ?_ ?_
    · intro j h1 h2
      rw [hst' j, if_neg (by omega)]
      exact hst j (by omega) (by omega)
    intro R2 ph2 rc2 dep2 lE2 rN2 rR2 rC2 st2 tN2 tB2 tS2 hI2 hlen2 htk2 hst2
    rw [pb] at hI2
    rw [htb, show k + 1 + ta + tb = k + (ta + tb + 1) by omega]
    refine K R2 _ _ _ _ _ _ _ _ _ _ _ hI2 (by omega) (fun j hj => ?_) (fun j => ?_)
    · obtain ⟨u1, u2, u3⟩ := htk j (by omega)
      obtain ⟨w1, w2, w3⟩ := htk2 j hj
      exact ⟨w1.trans (u1.trans ((pk_un (by omega)).trans (pk_un (by omega)))), w2.trans (u2.trans ((pk_un (by omega)).trans (pk_un (by omega)))), w3.trans (u3.trans ((pk_un (by omega)).trans (pk_un (by omega))))⟩
    · exact sf_two (fun _ => rfl) hst' hst2 j
  · -- choice
    intro a b ha hb iha ihb s co o hnd hpl hs hco ho Φ S R v c d k fu ph rc dep lE rN rR rC st tN tB tS HΦ hI hc hcb hh hR hd hk hst K
    obtain ⟨hp, rfl, rfl, rfl, hr⟩ := hI
    obtain ⟨ga, gb, g1, g2, g3, g4⟩ := hnd
    simp only [tr_sz, tr_nc, tr_cc, tr_tk] at hs hco ho hcb hh hR hd hk hpl K HΦ hst ⊢
    have hza := tr_sz_pos a
    have hzb := tr_sz_pos b
    have tka := tr_tk_le (fun j => rk.testBit j) a ha o
    have tkb := tr_tk_le (fun j => rk.testBit j) b hb (o + tr_cc a)
    have zb := rx_nd_z b hb _ _ _ gb
    rw [show s + tr_sz a + tr_sz b - 1 = s + (tr_sz a + tr_sz b) - 1 by omega] at zb
    have ns : s + (tr_sz a + tr_sz b + 1) - 1 = s + (tr_sz a + tr_sz b) := by omega
    rw [ns]
    have cs : (nI (s + (tr_sz a + tr_sz b))).toNatClampNeg = s + (tr_sz a + tr_sz b) := nI_clamp (by omega)
    have cs5 : (nI (s + (tr_sz a + tr_sz b) - 1)).toNatClampNeg = s + (tr_sz a + tr_sz b) - 1 := nI_clamp (by omega)
    have hsn : vp_in (nI (s + (tr_sz a + tr_sz b))) 40 := vp_in_nI (by omega) (by omega)
    have ets : tr_str χ (fun j => rk.testBit j) (.mul a b) co o = if rk.testBit (o + tr_cc a + tr_cc b) = true then tr_str χ (fun j => rk.testBit j) b (co + tr_nc a) (o + tr_cc a) else tr_str χ (fun j => rk.testBit j) a co o := rfl
    have hNi : vp_in (nI (o + tr_cc a + tr_cc b)) 6 := vp_in_nI (by omega) (by omega)
    have cN : (nI (o + tr_cc a + tr_cc b)).toNatClampNeg = o + tr_cc a + tr_cc b := nI_clamp (by omega)
    have tb := pk_tb (j := o + tr_cc a + tr_cc b) hrk (by omega)
    refine br_t (nI_pos' (by omega)) <| And.intro hsn <| br_f (by rw [cs, g1]; decide) <|
      And.intro hsn <| nm_r (e' := nI 5) (by rw [cs, g1]) <| nm_r (e' := nI (s + (tr_sz a + tr_sz b) - 1)) (nI_m1 (by omega)) <| And.intro (vp_in_nI (by omega) (by omega)) <|
      nm_r (e' := nI (s + tr_sz a - 1)) (by rw [cs5, zb, pk_sub (by omega)]; exact congrArg nI (by omega)) <| br_f (by decide) <| br_f (by decide) <| br_t rfl <| And.intro hsn <| nm_r (e' := nI (o + tr_cc a + tr_cc b)) (by rw [cs, g2]) <|
      br_c (fun h1 => ?_) (fun h0 => ?_)
    · rw [tb] at h1
      rw [ets, if_pos h1] at K
      rw [if_pos h1] at hk HΦ K
      refine br_f (by decide) <| And.intro hNi <| nm_r (e' := upd st (o + tr_cc a + tr_cc b) (nI 2)) (by rw [cN]; rfl) <| br_f (by decide) <| xt_push (by omega) <| HΦ _ _ _ _ _ _ _ _ _ _ _ ?_
      rw [show fu + (tr_tk (fun j => rk.testBit j) b (o + tr_cc a) + 1 - 1) = (fu + (tr_tk (fun j => rk.testBit j) b (o + tr_cc a) - 1)) + 1 by omega]
      refine xt_step (by omega) (by omega) pk_us pk_us pk_us fun Φ' HΦ' => xt_p0 ?_
      rw [show s + (tr_sz a + tr_sz b) - 1 = s + tr_sz a + tr_sz b - 1 by omega]
      refine ihb (s + tr_sz a) (co + tr_nc a) (o + tr_cc a) gb (fun i h1 h2 => hpl i (by omega) (by omega)) (by omega) (by omega) (by omega) Φ' S R v c d (k + 1) fu _ _ _ _ _ _ _ _ _ _ _ HΦ' ⟨hp, rfl, rfl, rfl, hr⟩ hc (by omega) (by omega) (by omega) (by omega) (by omega) (fun j h1 h2 => (pk_un (by omega)).trans (hst j (by omega) (by omega))) ?_
      intro R' ph' rc' dep' lE' rN' rR' rC' st' tN' tB' tS' hI' hlen htk hst'
      rw [show k + 1 + tr_tk (fun j => rk.testBit j) b (o + tr_cc a) = k + (tr_tk (fun j => rk.testBit j) b (o + tr_cc a) + 1) by omega]
      refine K R' _ _ _ _ _ _ _ _ _ _ _ hI' (by omega) (fun j hj => ?_) (fun j => ?_)
      · obtain ⟨u1, u2, u3⟩ := htk j hj
        exact ⟨u1.trans (pk_un (by omega)), u2.trans (pk_un (by omega)), u3.trans (pk_un (by omega))⟩
      · exact sf_mp (β := fun j => rk.testBit j) h1 hst hst' j
    · rw [tb] at h0
      rw [ets, if_neg h0] at K
      rw [if_neg h0] at hk HΦ K
      refine br_t rfl <| And.intro hNi <| nm_r (e' := upd st (o + tr_cc a + tr_cc b) (nI 1)) (by rw [cN]; rfl) <| br_t rfl <| xt_push (by omega) <| HΦ _ _ _ _ _ _ _ _ _ _ _ ?_
      rw [show fu + (tr_tk (fun j => rk.testBit j) a o + 1 - 1) = (fu + (tr_tk (fun j => rk.testBit j) a o - 1)) + 1 by omega]
      refine xt_step (by omega) (by omega) pk_us pk_us pk_us fun Φ' HΦ' => xt_p0 ?_
      refine iha s co o ga (fun i h1 h2 => hpl i (by omega) (by omega)) (by omega) (by omega) (by omega) Φ' S R v c d (k + 1) fu _ _ _ _ _ _ _ _ _ _ _ HΦ' ⟨hp, rfl, rfl, rfl, hr⟩ hc (by omega) (by omega) (by omega) (by omega) (by omega) (fun j h1 h2 => (pk_un (by omega)).trans (hst j (by omega) (by omega))) ?_
      intro R' ph' rc' dep' lE' rN' rR' rC' st' tN' tB' tS' hI' hlen htk hst'
      rw [show k + 1 + tr_tk (fun j => rk.testBit j) a o = k + (tr_tk (fun j => rk.testBit j) a o + 1) by omega]
      refine K R' _ _ _ _ _ _ _ _ _ _ _ hI' (by omega) (fun j hj => ?_) (fun j => ?_)
      · obtain ⟨u1, u2, u3⟩ := htk j hj
        exact ⟨u1.trans (pk_un (by omega)), u2.trans (pk_un (by omega)), u3.trans (pk_un (by omega))⟩
      · exact sf_mn (β := fun j => rk.testBit j) h0 hst hst' j
end
end
section
theorem bt_tr {page : Nat} {x y z : mt_M} (h : bt_lt page x y) (g : bt_lt page y z) : bt_lt page x z := by
  unfold bt_lt at *; omega
theorem bt_ir {page : Nat} (x : mt_M) : ¬ bt_lt page x x := by unfold bt_lt; omega
theorem rx_ds_split {dN dC dH dM nK nV nZ nS mH mW mL mR : Nat → Int32} : ∀ (top r : ds_D), rx_ds dN dC dH dM nK nV nZ nS mH mW mL mR (top ++ r) → rx_ds dN dC dH dM nK nV nZ nS mH mW mL mR r
  | [], _, h => h
  | _ :: top, r, h => rx_ds_split top r h.1
theorem ds_ok_split : ∀ (top r : ds_D), ds_ok (top ++ r) → ds_ok r
  | [], _, h => h
  | _ :: top, r, h => ds_ok_split top r h.1
theorem ds_le_split : ∀ (top r : ds_D), ds_sz r ≤ ds_sz (top ++ r) ∧ ds_nc r ≤ ds_nc (top ++ r) ∧ ds_cc r ≤ ds_cc (top ++ r) ∧ ds_mo r ≤ ds_mo (top ++ r)
  | [], r => ⟨Nat.le_refl _, Nat.le_refl _, Nat.le_refl _, Nat.le_refl _⟩
  | p :: top, r => by
    have := ds_le_split top r
    simp only [List.cons_append, ds_sz, ds_nc, ds_cc, ds_mo]
    omega
/-- the page of X -/
def px_P (S : List Nat) (R : List pr_R) (o c : Nat) (f : Nat → Nat) (ph pw rc : Int32) (lE rN rR rC st nV nS pl : Nat → Int32) : Prop :=
  pg_P S R lE True ∧ ph = nI (sg_ms S).1 ∧ pw = nI (sg_ms S).2.1 ∧ rc = nI R.length ∧ pr_at rN rR rC nV nS pl 0 R ∧ (sg_ms S).1 ≤ 40 ∧ R.length ≤ 40 ∧ (sg_ms S).2.1 < 100000 ∧
  ∀ j, j < 6 → st j = if o ≤ j ∧ j < o + c then nI (f j) else -1
section
variable {kT kF kN kA kB kC sH sN sE nl cl hl doc nod chr cho mea sc ph pw rc dep : Int32} {dN dC dH dM nK nV nZ nS pl mH mW mL mR cH cW cL cR lE rN rR rC st tN tB tS : Nat → Int32}
theorem xb_46 {post : Int32 → Prop} {page i j : Nat} {x y : mt_M} (hi : i < 128) (hj : j < 128) (hx : ml_e mH mW mL mR i x) (hy : ml_e mH mW mL mR j y) (K1 : bt_lt page x y → post 1) (K0 : ¬ bt_lt page x y → post 0) :
    wX_better_46 post (nI i) (nI j) (nI (bt_ov page x.2.1)) (nI (bt_ov page y.2.1)) kT kF kN kA kB kC sH sN sE nl cl hl doc nod chr cho mea sc ph pw rc dep dN dC dH dM nK nV nZ nS pl mH mW mL mR cH cW cL cR lE rN rR rC st tN tB tS := by
  have ci : (nI i).toNatClampNeg = i := nI_clamp (by omega)
  have cj : (nI j).toNatClampNeg = j := nI_clamp (by omega)
  have hin : vp_in (nI i) 128 := vp_in_nI hi (by omega)
  have hjn : vp_in (nI j) 128 := vp_in_nI hj (by omega)
  obtain ⟨x1, x2, x3, x4, hbx⟩ := hx
  obtain ⟨y1, y2, y3, y4, hby⟩ := hy
  unfold mt_bd at hbx hby
  unfold bt_lt at K0 K1
  have bx : bt_ov page x.2.1 < 4096 := by unfold bt_ov; omega
  have by' : bt_ov page y.2.1 < 4096 := by unfold bt_ov; omega
  generalize bt_ov page x.2.1 = ox at *
  generalize bt_ov page y.2.1 = oy at *
  have t1 : mH (nI i).toNatClampNeg = mH (nI j).toNatClampNeg ↔ x.1 = y.1 := by rw [ci, cj, x1, y1]; exact nI_eq (by omega) (by omega)
  have t2 : mR (nI j).toNatClampNeg ≤ mR (nI i).toNatClampNeg ↔ y.2.2.2 ≤ x.2.2.2 := by rw [ci, cj, x4, y4]; exact nI_leI (by omega) (by omega)
  have t3 : mH (nI j).toNatClampNeg ≤ mH (nI i).toNatClampNeg ↔ y.1 ≤ x.1 := by rw [ci, cj, x1, y1]; exact nI_leI (by omega) (by omega)
  exact pk_eq ox oy (fun e => And.intro hin <| And.intro hjn <| br_c (fun c => And.intro hin <| And.intro hjn <| br_c (fun c2 => K0 (by rw [t1] at c; rw [t2] at c2; omega)) (fun c2 => K1 (by rw [t1] at c; rw [t2] at c2; omega)))
      (fun c => And.intro hin <| And.intro hjn <| br_c (fun c2 => K0 (by rw [t1] at c; rw [t3] at c2; omega)) (fun c2 => K1 (by rw [t1] at c; rw [t3] at c2; omega))))
    (fun e => pk_le oy ox (fun c => K0 (by omega)) (fun c => K1 (by omega)))
theorem xb_22 {post : Int32 → Prop} {page i j : Nat} {x y : mt_M} (hp : page ≤ 255) (hi : i < 128) (hj : j < 128) (hx : ml_e mH mW mL mR i x) (hy : ml_e mH mW mL mR j y) (K1 : bt_lt page x y → post 1) (K0 : ¬ bt_lt page x y → post 0) :
    wX_better_22 post (nI i) (nI j) (nI page) (nI (bt_ov page x.2.1)) kT kF kN kA kB kC sH sN sE nl cl hl doc nod chr cho mea sc ph pw rc dep dN dC dH dM nK nV nZ nS pl mH mW mL mR cH cW cL cR lE rN rR rC st tN tB tS := by
  have cj : (nI j).toNatClampNeg = j := nI_clamp (by omega)
  have hjn : vp_in (nI j) 128 := vp_in_nI hj (by omega)
  have y2 := hy.2.1
  have hby := hy.2.2.2.2
  unfold mt_bd at hby
  have t : mW (nI j).toNatClampNeg ≤ nI page ↔ y.2.1 ≤ page := by rw [cj, y2]; exact nI_leI (by omega) (by omega)
  have M := xb_46 (kT := kT) (kF := kF) (kN := kN) (kA := kA) (kB := kB) (kC := kC) (sH := sH) (sN := sN) (sE := sE) (nl := nl) (cl := cl) (hl := hl) (doc := doc) (nod := nod) (chr := chr) (cho := cho) (mea := mea) (sc := sc) (ph := ph) (pw := pw) (rc := rc) (dep := dep) (dN := dN) (dC := dC) (dH := dH) (dM := dM) (nK := nK) (nV := nV) (nZ := nZ) (nS := nS) (pl := pl) (cH := cH) (cW := cW) (cL := cL) (cR := cR) (lE := lE) (rN := rN) (rR := rR) (rC := rC) (st := st) (tN := tN) (tB := tB) (tS := tS) hi hj hx hy K1 K0
  refine And.intro hjn <| br_c (fun c => ?_) (fun c => And.intro hjn ?_)
  · rw [t] at c
    rw [show bt_ov page y.2.1 = 0 by unfold bt_ov; omega] at M
    exact M
  · rw [t] at c
    rw [cj, y2, pk_sub (by omega)]
    exact M
theorem xb_all {post : Int32 → Prop} {page i j : Nat} {x y : mt_M} (hp : page ≤ 255) (hi : i < 128) (hj : j < 128) (hx : ml_e mH mW mL mR i x) (hy : ml_e mH mW mL mR j y) (K1 : bt_lt page x y → post 1) (K0 : ¬ bt_lt page x y → post 0) :
    wpX_better post (kT, kF, kN, kA, kB, kC, sH, sN, sE, nl, cl, hl, doc, nod, chr, cho, mea, sc, ph, pw, rc, dep, dN, dC, dH, dM, nK, nV, nZ, nS, pl, mH, mW, mL, mR, cH, cW, cL, cR, lE, rN, rR, rC, st, tN, tB, tS) (nI i) (nI j) (nI page) := by
  have ci : (nI i).toNatClampNeg = i := nI_clamp (by omega)
  have hin : vp_in (nI i) 128 := vp_in_nI hi (by omega)
  have x2 := hx.2.1
  have hbx := hx.2.2.2.2
  unfold mt_bd at hbx
  have t : mW (nI i).toNatClampNeg ≤ nI page ↔ x.2.1 ≤ page := by rw [ci, x2]; exact nI_leI (by omega) (by omega)
  refine And.intro hin <| br_c (fun c => ?_) (fun c => And.intro hin ?_)
  · rw [t] at c
    have M := fun kT kF => xb_22 (kT := kT) (kF := kF) (kN := kN) (kA := kA) (kB := kB) (kC := kC) (sH := sH) (sN := sN) (sE := sE) (nl := nl) (cl := cl) (hl := hl) (doc := doc) (nod := nod) (chr := chr) (cho := cho) (mea := mea) (sc := sc) (ph := ph) (pw := pw) (rc := rc) (dep := dep) (dN := dN) (dC := dC) (dH := dH) (dM := dM) (nK := nK) (nV := nV) (nZ := nZ) (nS := nS) (pl := pl) (cH := cH) (cW := cW) (cL := cL) (cR := cR) (lE := lE) (rN := rN) (rR := rR) (rC := rC) (st := st) (tN := tN) (tB := tB) (tS := tS) hp hi hj hx hy K1 K0
    rw [show bt_ov page x.2.1 = 0 by unfold bt_ov; omega] at M
    exact M _ _
  · rw [t] at c
    rw [ci, x2, pk_sub (by omega)]
    exact xb_22 hp hi hj hx hy K1 K0
theorem xb_loop {post : Int32 → Prop} {page mo : Nat} {L : List mt_M} (hp : page ≤ 255) (hm : mo + L.length ≤ 128) (gm : ml_at mH mW mL mR mo L)
    (K : ∀ bi b, L[bi]? = some b → (∀ x, x ∈ L → ¬ bt_lt page x b) → post (nI (mo + bi))) :
    ∀ (R P : List mt_M) (n bi : Nat) (b : mt_M), P ++ R = L → L[bi]? = some b → (∀ x, x ∈ P → ¬ bt_lt page x b) → R.length < n → wX_bestMeasure_22 post (nI page) (nI (mo + L.length)) kT kF kN kA kB kC sH sN sE nl cl hl doc nod chr cho mea sc ph pw rc dep dN dC dH dM nK nV nZ nS pl mH mW mL mR cH cW cL cR lE rN rR rC st tN tB tS n (nI (mo + bi)) (nI (mo + P.length)) := by
  intro R
  induction R with
  | nil =>
    intro P n bi b hPR hb hP hn
    obtain ⟨n, rfl⟩ : ∃ k, n = k + 1 := ⟨n - 1, by simp only [List.length_nil] at hn; omega⟩
    rw [List.append_nil] at hPR
    subst hPR
    exact br_t (nI_le (Nat.le_refl _) (by omega)) (K bi b hb hP)
  | cons x R ih =>
    intro P n bi b hPR hb hP hn
    simp only [List.length_cons] at hn
    obtain ⟨n, rfl⟩ : ∃ k, n = k + 1 := ⟨n - 1, by omega⟩
    have hlen : L.length = P.length + (R.length + 1) := by rw [← hPR, List.length_append, List.length_cons]
    have hx : L[P.length]? = some x := by rw [← hPR]; simp
    obtain ⟨hbl, _⟩ := List.getElem?_eq_some_iff.mp hb
    have eN : nI (mo + P.length) + 1 = nI (mo + (P ++ [x]).length) := by rw [nI_1, List.length_append]; rfl
    have hPR' : (P ++ [x]) ++ R = L := by rw [← hPR, List.append_assoc]; rfl
    refine br_f (nI_ge (by omega) (by omega)) <| xb_all hp (by omega) (by omega) (ml_get L mo _ x gm hx) (ml_get L mo _ b gm hb) (fun c => br_f (by decide) <| nm_r eN ?_) (fun c => br_t rfl <| nm_r eN ?_)
    · refine ih (P ++ [x]) n P.length x hPR' hx (fun y hy => ?_) (by omega)
      rcases List.mem_append.mp hy with h | h
      · exact fun q => hP y h (bt_tr q c)
      · rw [List.mem_singleton.mp h]; exact bt_ir x
    · refine ih (P ++ [x]) n bi b hPR' hb (fun y hy => ?_) (by omega)
      rcases List.mem_append.mp hy with h | h
      · exact hP y h
      · rw [List.mem_singleton.mp h]; exact c
theorem xm_mark {post : SX → Prop} {d o o' : Nat} (hd : d + 1 ≤ 40) (ho' : o' ≤ 6) (ho : o ≤ o') (e0 : dH d = nI o) (e1 : dH (d + 1) = nI o')
    (K : ∀ st : Nat → Int32, (∀ j, j < 6 → st j = if o ≤ j ∧ j < o' then nI 0 else -1) → post (kT, kF, kN, kA, kB, kC, sH, sN, sE, nl, cl, hl, doc, nod, chr, cho, mea, sc, ph, pw, rc, dep, dN, dC, dH, dM, nK, nV, nZ, nS, pl, mH, mW, mL, mR, cH, cW, cL, cR, lE, rN, rR, rC, st, tN, tB, tS)) :
    ∀ (m i n : Nat) (st : Nat → Int32), i + m = 6 → m < n → (∀ j, j < i → st j = if o ≤ j ∧ j < o' then nI 0 else -1) → wX_markChoices_2 post (nI d) kT kF kN kA kB kC sH sN sE nl cl hl doc nod chr cho mea sc ph pw rc dep n (nI i) dN dC dH dM nK nV nZ nS pl mH mW mL mR cH cW cL cR lE rN rR rC st tN tB tS := by
  have c0 : (nI d).toNatClampNeg = d := nI_clamp (by omega)
  have c1 : (nI d + 1).toNatClampNeg = d + 1 := by rw [nI_1]; exact nI_clamp (by omega)
  have h0 : vp_in (nI d) 41 := vp_in_nI (by omega) (by omega)
  have h1 : vp_in (nI d + 1) 41 := by rw [nI_1]; exact vp_in_nI (by omega) (by omega)
  intro m
  induction m with
  | zero =>
    intro i n st hi hn hst
    obtain ⟨n, rfl⟩ : ∃ k, n = k + 1 := ⟨n - 1, by omega⟩
    exact br_t (nI_le (a := 6) (by omega) (by omega)) (K st (fun j hj => hst j (by omega)))
  | succ m ih =>
    intro i n st hi hn hst
    obtain ⟨n, rfl⟩ : ∃ k, n = k + 1 := ⟨n - 1, by omega⟩
    have ci : (nI i).toNatClampNeg = i := nI_clamp (by omega)
    have hin : vp_in (nI i) 6 := vp_in_nI (by omega) (by omega)
    have t0 : nI i < dH (nI d).toNatClampNeg ↔ i < o := by rw [c0, e0]; exact nI_ltI (by omega) (by omega)
    have t1 : dH (nI d + 1).toNatClampNeg ≤ nI i ↔ o' ≤ i := by rw [c1, e1]; exact nI_leI (by omega) (by omega)
    have N0 : ¬ (o ≤ i ∧ i < o') → wX_markChoices_34 post (wX_markChoices_2 post (nI d) kT kF kN kA kB kC sH sN sE nl cl hl doc nod chr cho mea sc ph pw rc dep n) (nI d) (nI i) kT kF kN kA kB kC sH sN sE nl cl hl doc nod chr cho mea sc ph pw rc dep dN dC dH dM nK nV nZ nS pl mH mW mL mR cH cW cL cR lE rN rR rC st tN tB tS := by
      intro q
      refine br_t rfl <| And.intro hin <| nm_r (e' := upd st i (-1)) (by rw [ci]) <| nm_r (nI_1 i) <| ih (i + 1) n _ (by omega) (by omega) (fun j hj => ?_)
      by_cases e : j = i
      · rw [e, pk_us, if_neg q]
      · rw [pk_un e]; exact hst j (by omega)
    refine br_f (nI_ge (b := 6) (by omega) (by omega)) <| And.intro h0 <| br_c (fun c => N0 (by rw [t0] at c; omega)) (fun c => And.intro h1 <| br_c (fun c2 => N0 (by rw [t1] at c2; omega)) (fun c2 => ?_))
    rw [t0] at c
    rw [t1] at c2
    refine br_f (by decide) <| And.intro hin <| nm_r (e' := upd st i (nI 0)) (by rw [ci]; rfl) <| nm_r (nI_1 i) <| ih (i + 1) n _ (by omega) (by omega) (fun j hj => ?_)
    by_cases e : j = i
    · rw [e, pk_us, if_pos (by omega)]
    · rw [pk_un e]; exact hst j (by omega)
theorem xp_print {post : SX → Prop} {χ : Nat → Nat} {rk : Nat} (hrk : rk < 2 ^ 31) (hχ : ∀ i, χ i ≠ 10) {t : tr_T} (ht : tr_ok t) {s co o : Nat} {root : Int32} (hroot : root = nI (s + tr_sz t - 1)) (hnd : rx_nd nK nV nZ nS t s co o) (hpl : ∀ i, co ≤ i → i < co + tr_nc t → pl i = nI (χ i)) (hs : s + tr_sz t ≤ 40) (hco : co + tr_nc t ≤ 64) (ho : o + tr_cc t ≤ 6)
    (hst : ∀ j, j < 6 → st j = if o ≤ j ∧ j < o + tr_cc t then nI 0 else -1)
    (K : ∀ (R : List pr_R) (ph rc dep : Int32) (lE rN rR rC st tN tB tS : Nat → Int32), pq_I (tr_str χ (fun j => rk.testBit j) t co o) R True 0 ph rc dep lE rN rR rC nV nS pl → R.length ≤ 40 → (∀ j, j < 6 → st j = if o ≤ j ∧ j < o + tr_cc t then nI (tr_sf (fun j => rk.testBit j) t o j) else -1) → post (kT, kF, kN, kA, kB, kC, sH, sN, sE, nl, cl, hl, doc, nod, chr, cho, mea, sc, ph, pw, rc, dep, dN, dC, dH, dM, nK, nV, nZ, nS, pl, mH, mW, mL, mR, cH, cW, cL, cR, lE, rN, rR, rC, st, tN, tB, tS)) : wpX_print post (kT, kF, kN, kA, kB, kC, sH, sN, sE, nl, cl, hl, doc, nod, chr, cho, mea, sc, ph, pw, rc, dep, dN, dC, dH, dM, nK, nV, nZ, nS, pl, mH, mW, mL, mR, cH, cW, cL, cR, lE, rN, rR, rC, st, tN, tB, tS) root (nI rk) := by
  subst hroot
  have tk := tr_tk_le (fun j => rk.testBit j) t ht o
  unfold wpX_print
  refine xt_push (d := 0) (by omega) <| Exists.intro (1 + tr_tk (fun j => rk.testBit j) t o) ?_
  have e : 1 + tr_tk (fun j => rk.testBit j) t o = (1 + (tr_tk (fun j => rk.testBit j) t o - 1)) + 1 := by omega
  rw [e]
  refine xt_step (k := 0) (d := 0) (by omega) (by omega) pk_us pk_us pk_us fun Φ HΦ => xt_p0 ?_
  refine xt_perf hrk hχ t ht s co o hnd hpl hs hco ho Φ [] [] False 0 0 0 1 _ _ _ _ _ _ _ _ _ _ _ HΦ ⟨pg_0 _, rfl, rfl, rfl, trivial⟩ (Nat.le_refl _) (by omega) (by show 1 + tr_sz t ≤ 41; omega) (by show 0 + tr_sz t ≤ 40; omega) (by omega) (by omega) (fun j h1 h2 => ?_) ?_
  · rw [hst j (by omega), if_pos ⟨h1, h2⟩]; rfl
  intro R' ph' rc' dep' lE' rN' rR' rC' st' tN' tB' tS' hI' hlen _ hst'
  have eo : pr_out [] 0 (tr_str χ (fun j => rk.testBit j) t co o) = tr_str χ (fun j => rk.testBit j) t co o := by
    unfold pr_out; simp [sg_ind_0]
  rw [eo] at hI'
  have fin : post (kT, kF, kN, kA, kB, kC, sH, sN, sE, nl, cl, hl, doc, nod, chr, cho, mea, sc, ph', pw, rc', dep', dN, dC, dH, dM, nK, nV, nZ, nS, pl, mH, mW, mL, mR, cH, cW, cL, cR, lE', rN', rR', rC', st', tN', tB', tS') := K R' ph' rc' dep' lE' rN' rR' rC' st' tN' tB' tS' hI' (by simp only [List.length_nil] at hlen; omega) (fun j hj => by
    rw [hst' j]
    by_cases q : o ≤ j ∧ j < o + tr_cc t
    · rw [if_pos q, if_pos q]
    · rw [if_neg q, if_neg q, hst j hj, if_neg q])
  have hd : dep' = nI 0 := hI'.2.2.2.1
  subst hd
  exact br_c (fun _ => fin) (fun _ => br_t (Int32.le_refl _) fin)
theorem xp_layout {post : Int32 → SX → Prop} {N C H page : Nat} {χ : Nat → Nat} {top r : ds_D} {t : tr_T} {L : List mt_M} (hp : ds_in N C H χ (top ++ (t, L) :: r)) (hx : rx_R N C H χ (top ++ (t, L) :: r) nl cl hl doc nod chr cho mea dN dC dH dM nK nV nZ nS pl mH mW mL mR) (hpg : page ≤ 255)
    (K : ∀ (m : mt_M) (R : List pr_R) (pw : Int32) (ph rc dep : Int32) (lE rN rR rC st tN tB tS : Nat → Int32), m ∈ L → (∀ x, x ∈ L → ¬ bt_lt page x m) → sg_ms (tr_str χ (fun j => m.2.2.2.testBit j) t (ds_nc r) (ds_cc r)) = (m.1, m.2.1, m.2.2.1) →
      px_P (tr_str χ (fun j => m.2.2.2.testBit j) t (ds_nc r) (ds_cc r)) R (ds_cc r) (tr_cc t) (tr_sf (fun j => m.2.2.2.testBit j) t (ds_cc r)) ph pw rc lE rN rR rC st nV nS pl → post (if m.2.1 ≤ page then 1 else 2) (kT, kF, kN, kA, kB, kC, sH, sN, sE, nl, cl, hl, doc, nod, chr, cho, mea, sc, ph, pw, rc, dep, dN, dC, dH, dM, nK, nV, nZ, nS, pl, mH, mW, mL, mR, cH, cW, cL, cR, lE, rN, rR, rC, st, tN, tB, tS)) : wpX_layout post (kT, kF, kN, kA, kB, kC, sH, sN, sE, nl, cl, hl, doc, nod, chr, cho, mea, sc, ph, pw, rc, dep, dN, dC, dH, dM, nK, nV, nZ, nS, pl, mH, mW, mL, mR, cH, cW, cL, cR, lE, rN, rR, rC, st, tN, tB, tS) (nI top.length) (nI page) := by
  obtain ⟨rfl, rfl, rfl, d1, rfl, rfl, rfl, rfl, g', hpl⟩ := hx
  obtain ⟨hN8, hN40, hC64, hH, q1, q2, q3, hok', hχ⟩ := hp
  obtain ⟨g, ga, gn, gm⟩ := rx_ds_split top ((t, L) :: r) g'
  replace gm : ml_at mH mW mL mR (ds_mo r) L := gm
  replace gn : rx_nd nK nV nZ nS t (ds_sz r) (ds_nc r) (ds_cc r) := gn
  have hok : ds_ok r ∧ tr_ok t ∧ fo_FR t (ds_cc r) L := ds_ok_split top ((t, L) :: r) hok'
  have hle := ds_le_split top ((t, L) :: r)
  have hdl := ds_len_sz (top ++ (t, L) :: r)
  have hmo := ds_mo_le6 (r := (t, L) :: r) hok (by omega) (by omega)
  rw [List.length_append, List.length_cons] at d1 hdl
  simp only [ds_sz, ds_nc, ds_cc, ds_mo] at hle hmo
  subst d1
  obtain ⟨e1, e2, e3, e4⟩ := rx_ds_end g
  obtain ⟨f1, f2, f3, f4⟩ := ga
  have ht := tr_sz_pos t
  have c0 : (nI r.length).toNatClampNeg = r.length := nI_clamp (by omega)
  have c1 : (nI r.length + 1).toNatClampNeg = r.length + 1 := by rw [nI_1]; exact nI_clamp (by omega)
  have h0 : vp_in (nI r.length) 41 := vp_in_nI (by omega) (by omega)
  have h1 : vp_in (nI r.length + 1) 41 := by rw [nI_1]; exact vp_in_nI (by omega) (by omega)
  have p1 : nI (top.length + (r.length + 1)) - 1 - nI top.length = nI r.length := by
    rw [nI_m1 (by omega), pk_sub (by omega)]; exact congrArg nI (by omega)
  refine br_f (nI_pos (by omega)) <| br_f (nI_pos (by omega)) <| br_t (nI_le (b := 255) hpg (by omega)) <| br_t (nI_lt (by omega) (by omega)) <| nm_r p1 ?_
  refine And.intro h0 <| nm_r (e' := nI (ds_mo r)) (by rw [c0, e4]) <| And.intro h1 <| nm_r (e' := nI (ds_mo r + L.length)) (by rw [c1, f4]; rfl) <| nm_r (nI_1 _) <| Exists.intro (L.length + 1) ?_
  have hL := fo_FR_pos hok.2.2
  obtain ⟨b0, L', eL⟩ : ∃ b0 L', L = b0 :: L' := by
    cases L with
    | nil => exact absurd hL (by simp)
    | cons b0 L' => exact ⟨b0, L', rfl⟩
  refine xb_loop (post := _) (mo := ds_mo r) hpg (by omega) gm ?_ L' [b0] (L.length + 1) 0 b0 (by rw [eL]; rfl) (by rw [eL]; rfl) (fun x hx => by rw [List.mem_singleton.mp hx]; exact bt_ir b0) (by rw [eL, List.length_cons]; omega)
  intro bi m hbi hmin
  have hmL : m ∈ L := List.mem_of_getElem? hbi
  obtain ⟨m1, m2, m3, m4, mb⟩ := ml_get L (ds_mo r) bi m gm hbi
  have hmb := mb
  unfold mt_bd at hmb
  obtain ⟨hbl, _⟩ := List.getElem?_eq_some_iff.mp hbi
  have cb : (nI (ds_mo r + bi)).toNatClampNeg = ds_mo r + bi := nI_clamp (by omega)
  have hb : vp_in (nI (ds_mo r + bi)) 128 := vp_in_nI (by omega) (by omega)
  have hms : tr_ms (fun j => m.2.2.2.testBit j) t (ds_cc r) = m := by
    obtain ⟨β, e⟩ := hok.2.2.1 m hmL
    have := (tr_can χ β t hok.2.1 (fun j => m.2.2.2.testBit j) 0 (ds_cc r) (fun j _ _ => by rw [← e])).1
    rw [this, ← e]
  have hms' : sg_ms (tr_str χ (fun j => m.2.2.2.testBit j) t (ds_nc r) (ds_cc r)) = (m.1, m.2.1, m.2.2.1) := by
    have := tr_str_ms χ (fun j => m.2.2.2.testBit j) (fun i => by have := hχ i; omega) t hok.2.1 (ds_nc r) (ds_cc r)
    rw [hms] at this; exact this
  have hbd : 1 ≤ m.1 ∧ m.1 ≤ 40 := by
    have := tr_ms_bd (fun j => m.2.2.2.testBit j) t hok.2.1 (ds_cc r)
    rw [hms] at this; omega
  refine And.intro hb <| nm_r (e' := nI m.2.1) (by rw [cb, m2]) <| Exists.intro 7 <| xm_mark (o := ds_cc r) (o' := ds_cc r + tr_cc t) (by omega) (by omega) (by omega) e3 f3 ?_ 6 0 7 st (by omega) (by omega) (fun j hj => absurd hj (by omega))
  intro st' hst'
  refine And.intro h1 <| And.intro hb ?_
  rw [c1, cb, m4, f1]
  refine xp_print (rk := m.2.2.2) (χ := χ) (by omega) (fun i => by have := hχ i; omega) (t := t) hok.2.1 (s := ds_sz r) (co := ds_nc r) (o := ds_cc r) (nI_m1 (h := ds_sz r + tr_sz t) (by omega)) gn (fun i h1 h2 => hpl i (by omega)) (by omega) (by omega) (by omega) hst' ?_
  intro R ph rc dep lE rN rR rC st tN tB tS hI hR hst2
  obtain ⟨hpgP, rfl, rfl, rfl, hr⟩ := hI
  have hPP : px_P (tr_str χ (fun j => m.2.2.2.testBit j) t (ds_nc r) (ds_cc r)) R (ds_cc r) (tr_cc t) (tr_sf (fun j => m.2.2.2.testBit j) t (ds_cc r)) (nI (sg_ms (tr_str χ (fun j => m.2.2.2.testBit j) t (ds_nc r) (ds_cc r))).1) (nI m.2.1) (nI R.length) lE rN rR rC st nV nS pl :=
    ⟨hpgP, rfl, by rw [hms'], rfl, hr, by rw [hms']; exact hbd.2, hR, by rw [hms']; dsimp only; omega, hst2⟩
  have KK := K m R (nI m.2.1) _ _ (nI 0) lE rN rR rC st tN tB tS hmL hmin hms' hPP
  refine pk_lt page m.2.1 (fun c => ?_) (fun c => ?_)
  · rw [if_neg (by omega)] at KK; exact KK
  · rw [if_pos (by omega)] at KK; exact KK
end
end
section
section
variable {kT kF kN kA kB kC sH sN sE nl cl hl doc nod chr cho mea sc ph pw rc dep : Int32} {dN dC dH dM nK nV nZ nS pl mH mW mL mR cH cW cL cR lE rN rR rC st tN tB tS : Nat → Int32}
theorem xa_loop {post : Int32 → Prop} {row col : Nat} (hrow : row < 40) (hcol : col < 100000) {T : Nat} (hT : T ≤ 40) :
    ∀ (R : List pr_R) (i n : Nat), pr_at rN rR rC nV nS pl i R → i + R.length = T → R.length < n → post (nI ((pr_lk R row col).getD 32)) → wX_charAt_20 post (nI row) (nI col) kT kF kN kA kB kC sH sN sE nl cl hl doc nod chr cho mea sc ph pw (nI T) dep dN dC dH dM nK nV nZ nS pl mH mW mL mR cH cW cL cR lE rN rR rC st tN tB tS n (nI i) := by
  intro R
  induction R with
  | nil =>
    intro i n _ hi hn K
    obtain ⟨n, rfl⟩ : ∃ k, n = k + 1 := ⟨n - 1, by simp only [List.length_nil] at hn; omega⟩
    simp only [List.length_nil] at hi
    exact br_t (nI_le (by omega) (by omega)) K
  | cons x R ih =>
    intro i n hR hi hn K
    simp only [List.length_cons] at hi hn
    obtain ⟨n, rfl⟩ : ∃ k, n = k + 1 := ⟨n - 1, by omega⟩
    obtain ⟨⟨e1, e2, b1, b2, nd, s, hnd, hs, e3, e4, e5, e6⟩, hR⟩ := hR
    have ci : (nI i).toNatClampNeg = i := nI_clamp (by omega)
    have hin : vp_in (nI i) 40 := vp_in_nI (by omega) (by omega)
    have cn : (nI nd).toNatClampNeg = nd := nI_clamp (by omega)
    have hnn : vp_in (nI nd) 40 := vp_in_nI (by omega) (by omega)
    have N : ¬ (x.1 = row ∧ x.2.1 ≤ col ∧ col < x.2.1 + x.2.2.length) → ∀ y, y = nI i + 1 → wX_charAt_20 post (nI row) (nI col) kT kF kN kA kB kC sH sN sE nl cl hl doc nod chr cho mea sc ph pw (nI T) dep dN dC dH dM nK nV nZ nS pl mH mW mL mR cH cW cL cR lE rN rR rC st tN tB tS n y := by
      intro q
      refine nm_r (nI_1 i) (ih (i + 1) n hR (by omega) (by omega) ?_)
      simp only [pr_lk] at K
      rw [if_neg q] at K
      exact K
    refine br_f (nI_ge (by omega) (by omega)) <| And.intro hin <| nm_r (e' := nI col - nI x.2.1) (by rw [ci, e2]) <| And.intro hin <| nm_r (e' := nI nd) (by rw [ci, e3]) <| And.intro hin <| br_c (fun c => ?_) (fun c => ?_)
    · rw [ci, e1, nI_eq (by omega) (by omega)] at c
      by_cases q : col < x.2.1
      · exact br_t (pk_sneg (by omega) q) (N (by omega))
      · rw [pk_sub (by omega)]
        refine br_f (nI_pos (by omega)) <| And.intro hnn <| br_c (fun c2 => ?_) (fun c2 => ?_)
        · rw [cn, e4, nI_leI (by omega) (by omega)] at c2
          exact N (by omega)
        · rw [cn, e4, nI_leI (by omega) (by omega)] at c2
          have ca : (nI s + nI (col - x.2.1)).toNatClampNeg = s + (col - x.2.1) := by rw [nI_add]; exact nI_clamp (by omega)
          refine And.intro hnn <| And.intro ?_ ?_
          · rw [cn, e5, nI_add]; exact vp_in_nI (by omega) (by omega)
          · rw [cn, e5, ca]
            simp only [pr_lk] at K
            rw [if_pos (by omega)] at K
            have hl : col - x.2.1 < x.2.2.length := by omega
            have ge := List.getElem?_eq_getElem hl
            rw [ge] at K
            rw [al_get x.2.2 s (col - x.2.1) _ e6 ge]
            exact K
    · rw [ci, e1, nI_eq (by omega) (by omega)] at c
      exact N (by omega)
end
end
section
/-! Y: scans over the nodes -/
def ry_R (N C H : Nat) (χ : Nat → Nat) (ds : ds_D) (vn vN vC vH : Int32) (bk ba bc : Nat → Int32) : Prop :=
  vn = nI (ds_sz ds) ∧ vN = nI N ∧ vC = nI C ∧ vH = nI H ∧ ry_ds bk ba ds ∧ ∀ i, i < ds_nc ds → bc i = nI (χ i)
theorem yz_lt {e j : Nat} (he : e ≤ 40) (hj : j ≤ 40) : nI e - 1 < nI j ↔ e ≤ j := by
  rw [Int32.lt_iff_toInt_lt, nI_toInt (by omega)]
  have := pk_sub_toInt (a := e) (b := 1) (by omega) (by omega)
  have h : (nI e - 1).toInt = (e : Int) - 1 := this
  rw [h]; omega
theorem pk_b8 : ∀ c, c < 128 → vp_nar .byte (nI c).toInt8.toInt32 = nI c := by
  intro c hc
  rw [pk_vb]
  exact (by decide +kernel : ∀ c, c < 128 → (nI c).toInt8.toInt32 = nI c) c hc
theorem pk_b8' : ∀ c, c < 128 → vp_nar .byte (nI c) = nI c := by
  intro c hc
  rw [vp_nar_byte]
  exact (by decide +kernel : ∀ c, c < 128 → (nI c).toInt8.toInt32 = nI c) c hc
theorem nI_p1 {h k : Nat} (h1 : h = k + 1) : nI h + (-1) = nI k := by rw [h1]; exact pk_m1 k
theorem ds_oks {p : tr_T × List mt_M} {r : ds_D} (h : ds_ok (p :: r)) : tr_ok p.1 := h.2.1
section
variable {vn vN vC vH vl vh vp vf vg : Int32} {bk ba bc bo bh bb bf bs : Nat → Int32}
theorem yc_0 {post : Int32 → Prop} {e s a acc n : Nat} (he : e ≤ 40) (hs : s < e) (h1 : bk s = nI 0) (h2 : ba s = nI a) (K : wY_charsIn_5 post (nI e - 1) vn vN vC vH vl vh vp vf vg bk ba bc bo bh bb bf bs n (nI (acc + a)) (nI (s + 1))) : wY_charsIn_5 post (nI e - 1) vn vN vC vH vl vh vp vf vg bk ba bc bo bh bb bf bs (n + 1) (nI acc) (nI s) := by
  have c : (nI s).toNatClampNeg = s := nI_clamp (by omega)
  have hin : vp_in (nI s) 40 := vp_in_nI (by omega) (by omega)
  exact br_f (by rw [yz_lt he (by omega)]; omega) <| And.intro hin <| br_t (by rw [c, h1]; rfl) <| And.intro hin <| nm_r (e' := nI (acc + a)) (by rw [c, h2, nI_add]) <| nm_r (nI_1 s) K
theorem yc_1 {post : Int32 → Prop} {e s kd acc n : Nat} (he : e ≤ 40) (hs : s < e) (h1 : bk s = nI kd) (hk : 0 < kd) (hk' : kd < 10) (K : wY_charsIn_5 post (nI e - 1) vn vN vC vH vl vh vp vf vg bk ba bc bo bh bb bf bs n (nI acc) (nI (s + 1))) : wY_charsIn_5 post (nI e - 1) vn vN vC vH vl vh vp vf vg bk ba bc bo bh bb bf bs (n + 1) (nI acc) (nI s) := by
  have c : (nI s).toNatClampNeg = s := nI_clamp (by omega)
  have hin : vp_in (nI s) 40 := vp_in_nI (by omega) (by omega)
  exact br_f (by rw [yz_lt he (by omega)]; omega) <| And.intro hin <| br_f (by rw [c, h1]; exact nI_ne0 hk (by omega)) <| nm_r (e' := nI acc) (Int32.add_zero _) <| nm_r (nI_1 s) K
theorem yc_tree {post : Int32 → Prop} {e : Nat} (he : e ≤ 40) : ∀ t, tr_ok t → ∀ s acc n, ry_nd bk ba t s → s + tr_sz t ≤ e → wY_charsIn_5 post (nI e - 1) vn vN vC vH vl vh vp vf vg bk ba bc bo bh bb bf bs n (nI (acc + tr_nc t)) (nI (s + tr_sz t)) → wY_charsIn_5 post (nI e - 1) vn vN vC vH vl vh vp vf vg bk ba bc bo bh bb bf bs (n + tr_sz t) (nI acc) (nI s) := by
  refine tr_ind ?_ ?_ ?_ ?_ ?_ ?_
  · intro a s acc n g hs K
    simp only [tr_sz] at hs
    exact yc_0 he (by omega) g.1 g.2 K
  · intro a _ ih s acc n g hs K
    simp only [tr_sz, tr_nc] at hs K ⊢
    rw [show n + (tr_sz a + 1) = (n + 1) + tr_sz a by omega]
    exact ih s acc (n + 1) g.1 (by omega) (yc_1 he (by omega) g.2 (by omega) (by omega) K)
  · intro a k _ _ ih s acc n g hs K
    simp only [tr_sz, tr_nc] at hs K ⊢
    rw [show n + (tr_sz a + 1) = (n + 1) + tr_sz a by omega]
    exact ih s acc (n + 1) g.1 (by omega) (yc_1 he (by omega) g.2.1 (by omega) (by omega) K)
  all_goals
    intro a b _ _ iha ihb s acc n g hs K
    simp only [tr_sz, tr_nc] at hs K ⊢
    rw [show n + (tr_sz a + tr_sz b + 1) = ((n + 1) + tr_sz b) + tr_sz a by omega]
    refine iha s acc _ g.1 (by omega) (ihb _ _ _ g.2.1 (by omega) ?_)
    rw [show acc + tr_nc a + tr_nc b = acc + (tr_nc a + tr_nc b) by omega, show s + tr_sz a + tr_sz b = s + (tr_sz a + tr_sz b) by omega]
    exact yc_1 he (by omega) g.2.2 (by omega) (by omega) K
theorem yc_ds {post : Int32 → Prop} {e : Nat} (he : e ≤ 40) : ∀ (ds : ds_D), ds_ok ds → ∀ acc n, ry_ds bk ba ds → ds_sz ds ≤ e → wY_charsIn_5 post (nI e - 1) vn vN vC vH vl vh vp vf vg bk ba bc bo bh bb bf bs n (nI (acc + ds_nc ds)) (nI (ds_sz ds)) → wY_charsIn_5 post (nI e - 1) vn vN vC vH vl vh vp vf vg bk ba bc bo bh bb bf bs (n + ds_sz ds) (nI acc) (nI 0)
  | [], _, acc, n, _, _, K => K
  | p :: r, hk, acc, n, g, hs, K => by
    simp only [ds_sz, ds_nc] at hs K ⊢
    rw [show n + (ds_sz r + tr_sz p.1) = (n + tr_sz p.1) + ds_sz r by omega]
    refine yc_ds he r hk.1 acc _ g.1 (by omega) (yc_tree he p.1 hk.2.1 _ _ _ g.2 hs ?_)
    rw [show acc + ds_nc r + tr_nc p.1 = acc + (ds_nc r + tr_nc p.1) by omega]
    exact K
theorem yc_end {post : Int32 → Prop} {e : Nat} {x : Int32} (he : e ≤ 40) (K : post x) : wY_charsIn_5 post (nI e - 1) vn vN vC vH vl vh vp vf vg bk ba bc bo bh bb bf bs 1 x (nI e) := br_t ((yz_lt he he).mpr (Nat.le_refl _)) K
/-- the characters of the documents r, from the bottom -/
theorem yc_all {post : Int32 → Prop} {r : ds_D} (hk : ds_ok r) (g : ry_ds bk ba r) (hs : ds_sz r ≤ 40) (K : post (nI (ds_nc r))) : wpY_charsIn post (vn, vN, vC, vH, vl, vh, vp, vf, vg, bk, ba, bc, bo, bh, bb, bf, bs) 0 (nI (ds_sz r) - 1) :=
  Exists.intro (1 + ds_sz r) (yc_ds hs r hk 0 1 g (Nat.le_refl _) (yc_end hs (by rw [Nat.zero_add]; exact K)))
theorem yc_one {post : Int32 → Prop} {t : tr_T} (ht : tr_ok t) {s : Nat} (g : ry_nd bk ba t s) (hs : s + tr_sz t ≤ 40) (K : post (nI (tr_nc t))) : wpY_charsIn post (vn, vN, vC, vH, vl, vh, vp, vf, vg, bk, ba, bc, bo, bh, bb, bf, bs) (nI s) (nI (s + tr_sz t) - 1) :=
  Exists.intro (1 + tr_sz t) (yc_tree hs t ht s 0 1 g (Nat.le_refl _) (yc_end hs (by rw [Nat.zero_add]; exact K)))
/-! choices -/
theorem yh_0 {post : Int32 → Prop} {e s acc n : Nat} (he : e ≤ 40) (hs : s < e) (h1 : bk s = nI 5) (K : wY_choicesIn_5 post (nI e - 1) vn vN vC vH vl vh vp vf vg bk ba bc bo bh bb bf bs n (nI (acc + 1)) (nI (s + 1))) : wY_choicesIn_5 post (nI e - 1) vn vN vC vH vl vh vp vf vg bk ba bc bo bh bb bf bs (n + 1) (nI acc) (nI s) := by
  have c : (nI s).toNatClampNeg = s := nI_clamp (by omega)
  have hin : vp_in (nI s) 40 := vp_in_nI (by omega) (by omega)
  exact br_f (by rw [yz_lt he (by omega)]; omega) <| And.intro hin <| br_t (by rw [c, h1]; rfl) <| nm_r (nI_1 acc) <| nm_r (nI_1 s) K
theorem yh_1 {post : Int32 → Prop} {e s kd acc n : Nat} (he : e ≤ 40) (hs : s < e) (h1 : bk s = nI kd) (hk : kd < 5) (K : wY_choicesIn_5 post (nI e - 1) vn vN vC vH vl vh vp vf vg bk ba bc bo bh bb bf bs n (nI acc) (nI (s + 1))) : wY_choicesIn_5 post (nI e - 1) vn vN vC vH vl vh vp vf vg bk ba bc bo bh bb bf bs (n + 1) (nI acc) (nI s) := by
  have c : (nI s).toNatClampNeg = s := nI_clamp (by omega)
  have hin : vp_in (nI s) 40 := vp_in_nI (by omega) (by omega)
  have hne : ¬ nI kd = 5 := fun q => by have := (nI_eq (b := 5) (by omega) (by omega)).mp q; omega
  exact br_f (by rw [yz_lt he (by omega)]; omega) <| And.intro hin <| br_f (by rw [c, h1]; exact hne) <| nm_r (e' := nI acc) (Int32.add_zero _) <| nm_r (nI_1 s) K
theorem yh_tree {post : Int32 → Prop} {e : Nat} (he : e ≤ 40) : ∀ t, tr_ok t → ∀ s acc n, ry_nd bk ba t s → s + tr_sz t ≤ e → wY_choicesIn_5 post (nI e - 1) vn vN vC vH vl vh vp vf vg bk ba bc bo bh bb bf bs n (nI (acc + tr_cc t)) (nI (s + tr_sz t)) → wY_choicesIn_5 post (nI e - 1) vn vN vC vH vl vh vp vf vg bk ba bc bo bh bb bf bs (n + tr_sz t) (nI acc) (nI s) := by
  refine tr_ind ?_ ?_ ?_ ?_ ?_ ?_
  · intro a s acc n g hs K
    simp only [tr_sz] at hs
    exact yh_1 he (by omega) g.1 (by omega) K
  · intro a _ ih s acc n g hs K
    simp only [tr_sz, tr_cc] at hs K ⊢
    rw [show n + (tr_sz a + 1) = (n + 1) + tr_sz a by omega]
    exact ih s acc (n + 1) g.1 (by omega) (yh_1 he (by omega) g.2 (by omega) K)
  · intro a k _ _ ih s acc n g hs K
    simp only [tr_sz, tr_cc] at hs K ⊢
    rw [show n + (tr_sz a + 1) = (n + 1) + tr_sz a by omega]
    exact ih s acc (n + 1) g.1 (by omega) (yh_1 he (by omega) g.2.1 (by omega) K)
  · intro a b _ _ iha ihb s acc n g hs K
    simp only [tr_sz, tr_cc] at hs K ⊢
    rw [show n + (tr_sz a + tr_sz b + 1) = ((n + 1) + tr_sz b) + tr_sz a by omega]
    refine iha s acc _ g.1 (by omega) (ihb _ _ _ g.2.1 (by omega) ?_)
    rw [show acc + tr_cc a + tr_cc b = acc + (tr_cc a + tr_cc b) by omega, show s + tr_sz a + tr_sz b = s + (tr_sz a + tr_sz b) by omega]
    exact yh_1 he (by omega) g.2.2 (by omega) K
  · intro a b _ _ iha ihb s acc n g hs K
    simp only [tr_sz, tr_cc] at hs K ⊢
    rw [show n + (tr_sz a + tr_sz b + 1) = ((n + 1) + tr_sz b) + tr_sz a by omega]
    refine iha s acc _ g.1 (by omega) (ihb _ _ _ g.2.1 (by omega) ?_)
    rw [show acc + tr_cc a + tr_cc b = acc + (tr_cc a + tr_cc b) by omega, show s + tr_sz a + tr_sz b = s + (tr_sz a + tr_sz b) by omega]
    exact yh_1 he (by omega) g.2.2 (by omega) K
  · intro a b _ _ iha ihb s acc n g hs K
    simp only [tr_sz, tr_cc] at hs K ⊢
    rw [show n + (tr_sz a + tr_sz b + 1) = ((n + 1) + tr_sz b) + tr_sz a by omega]
    refine iha s acc _ g.1 (by omega) (ihb _ _ _ g.2.1 (by omega) ?_)
    rw [show s + tr_sz a + tr_sz b = s + (tr_sz a + tr_sz b) by omega]
    refine yh_0 he (by omega) g.2.2 ?_
    rw [show acc + tr_cc a + tr_cc b + 1 = acc + (tr_cc a + tr_cc b + 1) by omega]
    exact K
theorem yh_ds {post : Int32 → Prop} {e : Nat} (he : e ≤ 40) : ∀ (ds : ds_D), ds_ok ds → ∀ acc n, ry_ds bk ba ds → ds_sz ds ≤ e → wY_choicesIn_5 post (nI e - 1) vn vN vC vH vl vh vp vf vg bk ba bc bo bh bb bf bs n (nI (acc + ds_cc ds)) (nI (ds_sz ds)) → wY_choicesIn_5 post (nI e - 1) vn vN vC vH vl vh vp vf vg bk ba bc bo bh bb bf bs (n + ds_sz ds) (nI acc) (nI 0)
  | [], _, acc, n, _, _, K => K
  | p :: r, hk, acc, n, g, hs, K => by
    simp only [ds_sz, ds_cc] at hs K ⊢
    rw [show n + (ds_sz r + tr_sz p.1) = (n + tr_sz p.1) + ds_sz r by omega]
    refine yh_ds he r hk.1 acc _ g.1 (by omega) (yh_tree he p.1 hk.2.1 _ _ _ g.2 hs ?_)
    rw [show acc + ds_cc r + tr_cc p.1 = acc + (ds_cc r + tr_cc p.1) by omega]
    exact K
theorem yh_end {post : Int32 → Prop} {e : Nat} {x : Int32} (he : e ≤ 40) (K : post x) : wY_choicesIn_5 post (nI e - 1) vn vN vC vH vl vh vp vf vg bk ba bc bo bh bb bf bs 1 x (nI e) := br_t ((yz_lt he he).mpr (Nat.le_refl _)) K
theorem yh_all {post : Int32 → Prop} {r : ds_D} (hk : ds_ok r) (g : ry_ds bk ba r) (hs : ds_sz r ≤ 40) (K : post (nI (ds_cc r))) : wpY_choicesIn post (vn, vN, vC, vH, vl, vh, vp, vf, vg, bk, ba, bc, bo, bh, bb, bf, bs) 0 (nI (ds_sz r) - 1) :=
  Exists.intro (1 + ds_sz r) (yh_ds hs r hk 0 1 g (Nat.le_refl _) (yh_end hs (by rw [Nat.zero_add]; exact K)))
theorem yh_one {post : Int32 → Prop} {t : tr_T} (ht : tr_ok t) {s : Nat} (g : ry_nd bk ba t s) (hs : s + tr_sz t ≤ 40) (K : post (nI (tr_cc t))) : wpY_choicesIn post (vn, vN, vC, vH, vl, vh, vp, vf, vg, bk, ba, bc, bo, bh, bb, bf, bs) (nI s) (nI (s + tr_sz t) - 1) :=
  Exists.intro (1 + tr_sz t) (yh_tree hs t ht s 0 1 g (Nat.le_refl _) (yh_end hs (by rw [Nat.zero_add]; exact K)))
/-! documents -/
theorem ya_0 {post : Int32 → Prop} (K : post 0) : wpY_arity post (vn, vN, vC, vH, vl, vh, vp, vf, vg, bk, ba, bc, bo, bh, bb, bf, bs) (nI 0) := br_t rfl K
theorem ya_1 {post : Int32 → Prop} {k : Nat} (h1 : 0 < k) (h2 : k ≤ 2) (K : post 1) : wpY_arity post (vn, vN, vC, vH, vl, vh, vp, vf, vg, bk, ba, bc, bo, bh, bb, bf, bs) (nI k) := br_f (nI_ne0 h1 (by omega)) (br_f (nI_nlt (b := k) (a := 2) h2 (by omega)) K)
theorem ya_2 {post : Int32 → Prop} {k : Nat} (h1 : 2 < k) (h2 : k ≤ 5) (K : post 2) : wpY_arity post (vn, vN, vC, vH, vl, vh, vp, vf, vg, bk, ba, bc, bo, bh, bb, bf, bs) (nI k) := br_f (nI_ne0 (by omega) (by omega)) (br_t (nI_lt (a := 2) h1 (by omega)) K)
theorem yd_s {post : Int32 → Prop} {e s n : Nat} {x : Int32} (he : e ≤ 40) (hs : s < e) (H : wpY_arity (fun r => ∀ x1 : Int32, x1 = x + (1 - r) → ∀ x2 : Int32, x2 = nI s + 1 → wY_documents_4 post (nI e) vN vC vH vl vh vp vf vg bk ba bc bo bh bb bf bs n x1 x2) (nI e, vN, vC, vH, vl, vh, vp, vf, vg, bk, ba, bc, bo, bh, bb, bf, bs) (bk s)) :
    wY_documents_4 post (nI e) vN vC vH vl vh vp vf vg bk ba bc bo bh bb bf bs (n + 1) x (nI s) := by
  have c : (nI s).toNatClampNeg = s := nI_clamp (by omega)
  refine br_f (nI_ge hs (by omega)) <| And.intro (vp_in_nI (by omega) (by omega)) ?_
  rw [c]
  exact H
theorem yd_tree {post : Int32 → Prop} {e : Nat} (he : e ≤ 40) : ∀ t, tr_ok t → ∀ s acc n, ry_nd bk ba t s → s + tr_sz t ≤ e → wY_documents_4 post (nI e) vN vC vH vl vh vp vf vg bk ba bc bo bh bb bf bs n (nI (acc + 1)) (nI (s + tr_sz t)) → wY_documents_4 post (nI e) vN vC vH vl vh vp vf vg bk ba bc bo bh bb bf bs (n + tr_sz t) (nI acc) (nI s) := by
  have z1 : (1 : Int32) - 1 = 0 := by decide
  have z2 : (1 : Int32) - 2 = -1 := by decide
  refine tr_ind ?_ ?_ ?_ ?_ ?_ ?_
  · intro a s acc n g hs K
    simp only [tr_sz] at hs
    refine yd_s he (by omega) ?_
    rw [g.1]
    exact ya_0 (nm_r (nI_1 acc) (nm_r (nI_1 s) K))
  · intro a _ ih s acc n g hs K
    simp only [tr_sz] at hs K ⊢
    rw [show n + (tr_sz a + 1) = (n + 1) + tr_sz a by omega]
    refine ih s acc (n + 1) g.1 (by omega) (yd_s he (by omega) ?_)
    rw [g.2]
    exact ya_1 (by omega) (by omega) (nm_r (e' := nI (acc + 1)) (by rw [z1, Int32.add_zero]) (nm_r (nI_1 _) K))
  · intro a k _ _ ih s acc n g hs K
    simp only [tr_sz] at hs K ⊢
    rw [show n + (tr_sz a + 1) = (n + 1) + tr_sz a by omega]
    refine ih s acc (n + 1) g.1 (by omega) (yd_s he (by omega) ?_)
    rw [g.2.1]
    exact ya_1 (by omega) (by omega) (nm_r (e' := nI (acc + 1)) (by rw [z1, Int32.add_zero]) (nm_r (nI_1 _) K))
  all_goals
    intro a b _ _ iha ihb s acc n g hs K
    simp only [tr_sz] at hs K ⊢
    rw [show n + (tr_sz a + tr_sz b + 1) = ((n + 1) + tr_sz b) + tr_sz a by omega]
    refine iha s acc _ g.1 (by omega) (ihb _ _ _ g.2.1 (by omega) ?_)
    rw [show s + tr_sz a + tr_sz b = s + (tr_sz a + tr_sz b) by omega]
    refine yd_s he (by omega) ?_
    rw [g.2.2]
    exact ya_2 (by omega) (by omega) (nm_r (e' := nI (acc + 1)) (by rw [z2]; exact pk_m1 _) (nm_r (nI_1 _) K))
theorem yd_ds {post : Int32 → Prop} {e : Nat} (he : e ≤ 40) : ∀ (ds : ds_D), ds_ok ds → ∀ acc n, ry_ds bk ba ds → ds_sz ds ≤ e → wY_documents_4 post (nI e) vN vC vH vl vh vp vf vg bk ba bc bo bh bb bf bs n (nI (acc + ds.length)) (nI (ds_sz ds)) → wY_documents_4 post (nI e) vN vC vH vl vh vp vf vg bk ba bc bo bh bb bf bs (n + ds_sz ds) (nI acc) (nI 0)
  | [], _, acc, n, _, _, K => K
  | p :: r, hk, acc, n, g, hs, K => by
    simp only [ds_sz, List.length_cons] at hs K ⊢
    rw [show n + (ds_sz r + tr_sz p.1) = (n + tr_sz p.1) + ds_sz r by omega]
    refine yd_ds he r hk.1 acc _ g.1 (by omega) (yd_tree he p.1 hk.2.1 _ _ _ g.2 hs ?_)
    rw [show acc + r.length + 1 = acc + (r.length + 1) by omega]
    exact K
theorem yd_all {post : Int32 → Prop} {ds : ds_D} (hk : ds_ok ds) (g : ry_ds bk ba ds) (hs : ds_sz ds ≤ 40) (K : post (nI ds.length)) : wpY_documents post (nI (ds_sz ds), vN, vC, vH, vl, vh, vp, vf, vg, bk, ba, bc, bo, bh, bb, bf, bs) :=
  Exists.intro (1 + ds_sz ds) (yd_ds hs ds hk 0 1 g (Nat.le_refl _) (br_t (nI_le (Nat.le_refl _) (by omega)) (by rw [Nat.zero_add]; exact K)))
/-! the first node of a document -/
theorem yf_s {post : Int32 → Prop} {s n : Nat} {x : Int32} (hs : s < 40) (H : wpY_arity (fun r => ∀ x2 : Int32, x2 = x + (r - 1) → ((x2 = 0 → post (nI s)) ∧ (¬ x2 = 0 → ∀ x3 : Int32, x3 = nI s + (-1) → wY_firstOf_4 post vn vN vC vH vl vh vp vf vg bk ba bc bo bh bb bf bs n x2 x3))) (vn, vN, vC, vH, vl, vh, vp, vf, vg, bk, ba, bc, bo, bh, bb, bf, bs) (bk s)) :
    wY_firstOf_4 post vn vN vC vH vl vh vp vf vg bk ba bc bo bh bb bf bs (n + 1) x (nI s) := by
  have c : (nI s).toNatClampNeg = s := nI_clamp (by omega)
  refine br_f (nI_pos (by omega)) <| And.intro (vp_in_nI (by omega) (by omega)) ?_
  rw [c]
  exact H
theorem yf_tree {post : Int32 → Prop} : ∀ t, tr_ok t → ∀ s d n, ry_nd bk ba t s → s + tr_sz t ≤ 40 → d + tr_sz t < 1000 → ((nI d = 0 → post (nI s)) ∧ (¬ nI d = 0 → ∀ x3 : Int32, x3 = nI s + (-1) → wY_firstOf_4 post vn vN vC vH vl vh vp vf vg bk ba bc bo bh bb bf bs n (nI d) x3)) → wY_firstOf_4 post vn vN vC vH vl vh vp vf vg bk ba bc bo bh bb bf bs (n + tr_sz t) (nI (d + 1)) (nI (s + tr_sz t - 1)) := by
  have z0 : (0 : Int32) - 1 = -1 := by decide
  have z1 : (1 : Int32) - 1 = 0 := by decide
  have z2 : (2 : Int32) - 1 = 1 := by decide
  refine tr_ind ?_ ?_ ?_ ?_ ?_ ?_
  · intro a s d n g hs hd K
    simp only [tr_sz] at hs hd ⊢
    rw [show s + 1 - 1 = s by omega]
    refine yf_s (by omega) ?_
    rw [g.1]
    exact ya_0 (nm_r (e' := nI d) (by rw [z0]; exact pk_m1 d) K)
  · intro a _ ih s d n g hs hd K
    have := tr_sz_pos a
    simp only [tr_sz] at hs hd ⊢
    rw [show s + (tr_sz a + 1) - 1 = s + tr_sz a by omega, show n + (tr_sz a + 1) = (n + tr_sz a) + 1 by omega]
    refine yf_s (by omega) ?_
    rw [g.2]
    exact ya_1 (by omega) (by omega) (nm_r (e' := nI (d + 1)) (by rw [z1, Int32.add_zero]) (br_f (nI_ne0 (by omega) (by omega)) (nm_r (e' := nI (s + tr_sz a - 1)) (nI_p1 (by omega)) (ih s d n g.1 (by omega) (by omega) K))))
  · intro a k _ _ ih s d n g hs hd K
    have := tr_sz_pos a
    simp only [tr_sz] at hs hd ⊢
    rw [show s + (tr_sz a + 1) - 1 = s + tr_sz a by omega, show n + (tr_sz a + 1) = (n + tr_sz a) + 1 by omega]
    refine yf_s (by omega) ?_
    rw [g.2.1]
    exact ya_1 (by omega) (by omega) (nm_r (e' := nI (d + 1)) (by rw [z1, Int32.add_zero]) (br_f (nI_ne0 (by omega) (by omega)) (nm_r (e' := nI (s + tr_sz a - 1)) (nI_p1 (by omega)) (ih s d n g.1 (by omega) (by omega) K))))
  all_goals
    intro a b _ _ iha ihb s d n g hs hd K
    have := tr_sz_pos a
    have := tr_sz_pos b
    simp only [tr_sz] at hs hd ⊢
    rw [show s + (tr_sz a + tr_sz b + 1) - 1 = s + (tr_sz a + tr_sz b) by omega, show n + (tr_sz a + tr_sz b + 1) = ((n + tr_sz a) + tr_sz b) + 1 by omega]
    refine yf_s (by omega) ?_
    rw [g.2.2]
    refine ya_2 (by omega) (by omega) (nm_r (e' := nI (d + 1 + 1)) (by rw [z2]; exact nI_1 _) (br_f (nI_ne0 (by omega) (by omega)) (nm_r (e' := nI (s + tr_sz a + tr_sz b - 1)) (nI_p1 (by omega)) ?_)))
    exact ihb (s + tr_sz a) (d + 1) (n + tr_sz a) g.2.1 (by omega) (by omega) (br_f (nI_ne0 (by omega) (by omega)) (nm_r (e' := nI (s + tr_sz a - 1)) (nI_p1 (by omega)) (iha s d n g.1 (by omega) (by omega) K)))
theorem yf_all {post : Int32 → Prop} {t : tr_T} (ht : tr_ok t) {s : Nat} (g : ry_nd bk ba t s) (hs : s + tr_sz t ≤ 40) (K : post (nI s)) : wpY_firstOf post (vn, vN, vC, vH, vl, vh, vp, vf, vg, bk, ba, bc, bo, bh, bb, bf, bs) (nI (s + tr_sz t) - 1) := by
  have := tr_sz_pos t
  rw [nI_m1 (by omega)]
  exact Exists.intro (0 + tr_sz t) (yf_tree t ht s 0 0 g hs (by omega) (br_t rfl K))
end
end
section
theorem ry_push {bk ba bk' ba' : Nat → Int32} {r : ds_D} {t : tr_T} {Q : List mt_M} (hk : ds_ok r) (g : ry_ds bk ba r) (h : ∀ j, j < ds_sz r → bk' j = bk j ∧ ba' j = ba j) (ht : ry_nd bk' ba' t (ds_sz r)) : ry_ds bk' ba' ((t, Q) :: r) :=
  ⟨ry_ds_cg r hk h g, ht⟩
theorem ry_un {bk ba : Nat → Int32} {j k : Nat} {x y : Int32} (h : j ≠ k) : upd bk k x j = bk j ∧ upd ba k y j = ba j := ⟨pk_un h, pk_un h⟩
section
variable {vn vN vC vH vl vh vp vf vg : Int32} {bk ba bc bo bh bb bf bs : Nat → Int32}
theorem yb_add {Φ : SY → Prop} {s : Nat} {p0 p1 : Int32} (hs : s < 40) (K : Φ (nI (s + 1), vN, vC, vH, vl, vh, 0, vf, vg, upd bk s p0, upd ba s p1, bc, bo, bh, bb, bf, bs)) : wpY_add Φ (nI s, vN, vC, vH, vl, vh, vp, vf, vg, bk, ba, bc, bo, bh, bb, bf, bs) p0 p1 := by
  have c : (nI s).toNatClampNeg = s := nI_clamp (by omega)
  have hin : vp_in (nI s) 40 := vp_in_nI (by omega) (by omega)
  exact And.intro hin <| nm_r (e' := upd bk s p0) (by rw [c]) <| And.intro hin <| nm_r (e' := upd ba s p1) (by rw [c]) <| nm_r (nI_1 s) K
theorem yb_few {post : Int32 → SY → Prop} {ds : ds_D} {p0 p1 : Int32} {need : Nat} (hk : ds_ok ds) (g : ry_ds bk ba ds) (hs : ds_sz ds ≤ 40) (h : ds.length < need) (hn : need ≤ 2) (K : post (-3) (nI (ds_sz ds), vN, vC, vH, vl, vh, vp, vf, vg, bk, ba, bc, bo, bh, bb, bf, bs)) : wpY_build post (nI (ds_sz ds), vN, vC, vH, vl, vh, vp, vf, vg, bk, ba, bc, bo, bh, bb, bf, bs) p0 p1 (nI need) := by
  unfold wpY_build
  exact yd_all hk g hs (br_f (nI_ge h (by omega)) K)
theorem yb_full {post : Int32 → SY → Prop} {ds : ds_D} {p0 p1 : Int32} {need N : Nat} (hk : ds_ok ds) (g : ry_ds bk ba ds) (hs : ds_sz ds ≤ 40) (h : need ≤ ds.length) (h2 : N < ds_sz ds + 1) (K : post (-5) (nI (ds_sz ds), nI N, vC, vH, vl, vh, vp, vf, vg, bk, ba, bc, bo, bh, bb, bf, bs)) : wpY_build post (nI (ds_sz ds), nI N, vC, vH, vl, vh, vp, vf, vg, bk, ba, bc, bo, bh, bb, bf, bs) p0 p1 (nI need) := by
  have := ds_len_sz ds
  unfold wpY_build
  exact yd_all hk g hs (br_t (nI_le h (by omega)) (br_f (by rw [nI_1]; exact nI_ge h2 (by omega)) K))
theorem yb_ok {post : Int32 → SY → Prop} {ds : ds_D} {p1 : Int32} {kd need N : Nat} (hk : ds_ok ds) (g : ry_ds bk ba ds) (hs : ds_sz ds + 1 ≤ N) (hN : N ≤ 40) (h : need ≤ ds.length) (hkd : kd < 5)
    (K : post 0 (nI (ds_sz ds + 1), nI N, vC, vH, vl, vh, 0, vf, vg, upd bk (ds_sz ds) (nI kd), upd ba (ds_sz ds) p1, bc, bo, bh, bb, bf, bs)) : wpY_build post (nI (ds_sz ds), nI N, vC, vH, vl, vh, vp, vf, vg, bk, ba, bc, bo, bh, bb, bf, bs) (nI kd) p1 (nI need) := by
  have := ds_len_sz ds
  have hne : ¬ nI kd = 5 := fun q => by have := (nI_eq (b := 5) (by omega) (by omega)).mp q; omega
  unfold wpY_build
  exact yd_all hk g (by omega) (br_t (nI_le h (by omega)) (br_t (by rw [nI_1]; exact nI_le hs (by omega)) (br_f hne (yb_add (by omega) K))))
theorem yb_c0 {post : Int32 → SY → Prop} {ds : ds_D} {p1 : Int32} {need N H : Nat} (hk : ds_ok ds) (g : ry_ds bk ba ds) (hs : ds_sz ds + 1 ≤ N) (hN : N ≤ 40) (h : need ≤ ds.length) (hc : H < ds_cc ds + 1) (hc6 : ds_cc ds ≤ 6)
    (K : post (-5) (nI (ds_sz ds), nI N, vC, nI H, vl, vh, vp, vf, vg, bk, ba, bc, bo, bh, bb, bf, bs)) : wpY_build post (nI (ds_sz ds), nI N, vC, nI H, vl, vh, vp, vf, vg, bk, ba, bc, bo, bh, bb, bf, bs) (nI 5) p1 (nI need) := by
  have := ds_len_sz ds
  unfold wpY_build
  exact yd_all hk g (by omega) (br_t (nI_le h (by omega)) (br_t (by rw [nI_1]; exact nI_le hs (by omega)) (br_t rfl (yh_all hk g (by omega) (br_f (by rw [nI_1]; exact nI_ge hc (by omega)) K)))))
theorem yb_c1 {post : Int32 → SY → Prop} {ds : ds_D} {p1 : Int32} {need N H : Nat} (hk : ds_ok ds) (g : ry_ds bk ba ds) (hs : ds_sz ds + 1 ≤ N) (hN : N ≤ 40) (h : need ≤ ds.length) (hc : ds_cc ds + 1 ≤ H) (hc6 : H ≤ 6)
    (K : post 0 (nI (ds_sz ds + 1), nI N, vC, nI H, vl, vh, 0, vf, vg, upd bk (ds_sz ds) (nI 5), upd ba (ds_sz ds) p1, bc, bo, bh, bb, bf, bs)) : wpY_build post (nI (ds_sz ds), nI N, vC, nI H, vl, vh, vp, vf, vg, bk, ba, bc, bo, bh, bb, bf, bs) (nI 5) p1 (nI need) := by
  have := ds_len_sz ds
  unfold wpY_build
  exact yd_all hk g (by omega) (br_t (nI_le h (by omega)) (br_t (by rw [nI_1]; exact nI_le hs (by omega)) (br_t rfl (yh_all hk g (by omega) (br_t (by rw [nI_1]; exact nI_le hc (by omega)) (yb_add (by omega) K))))))
/-! text -/
theorem yt_loop {post : Int32 → SY → Prop} {n cv U s : Nat} (hs : s < 40) (hc : cv < 128) (hU : U + n ≤ 64) {χ : Nat → Nat} (hn : n ≤ 64)
    (K : ∀ bc : Nat → Int32, (∀ i, i < U + n → bc i = nI (if i < U then χ i else cv)) → post 0 (nI (s + 1), vN, vC, vH, vl, vh, 0, vf, vg, upd bk s (nI 0), upd ba s (nI n), bc, bo, bh, bb, bf, bs)) :
    ∀ (d j f : Nat) (bc : Nat → Int32), j + d = n → d < f → (∀ i, i < U + j → bc i = nI (if i < U then χ i else cv)) → wY_text_66 post (nI cv) (nI n) (nI U) (nI s) vN vC vH vl vh vp vf vg f (nI j) bk ba bc bo bh bb bf bs := by
  intro d
  induction d with
  | zero =>
    intro j f bc hj hf h
    obtain ⟨f, rfl⟩ : ∃ k, f = k + 1 := ⟨f - 1, by omega⟩
    rw [Nat.add_zero] at hj
    subst hj
    exact br_t (nI_le (Nat.le_refl _) (by omega)) (yb_add hs (K bc h))
  | succ d ih =>
    intro j f bc hj hf h
    obtain ⟨f, rfl⟩ : ∃ k, f = k + 1 := ⟨f - 1, by omega⟩
    have c : (nI U + nI j).toNatClampNeg = U + j := by rw [nI_add]; exact nI_clamp (by omega)
    exact br_f (nI_ge (by omega) (by omega)) <| And.intro (by rw [nI_add]; exact vp_in_nI (by omega) (by omega)) <| nm_r (e' := upd bc (U + j) (nI cv)) (by rw [c, pk_b8 cv hc]) <| nm_r (nI_1 j) <|
      ih (j + 1) f _ (by omega) (by omega) fun i hi => by
        by_cases e : i = U + j
        · rw [e, pk_us, if_neg (by omega)]
        · rw [pk_un e]; exact h i (by omega)
theorem yp_text {post : Int32 → SY → Prop} {N C H n cv : Nat} {χ : Nat → Nat} {ds : ds_D} (hp : ds_in N C H χ ds) (hy : ry_R N C H χ ds vn vN vC vH bk ba bc) (hc1 : 32 ≤ cv) (hc2 : cv ≤ 126) (hn : n ≤ 8)
    (K1 : N < ds_sz ds + 1 → post (-5) (vn, vN, vC, vH, vl, vh, vp, vf, vg, bk, ba, bc, bo, bh, bb, bf, bs)) (K2 : ds_sz ds + 1 ≤ N → C < ds_nc ds + n → post (-5) (vn, vN, vC, vH, vl, vh, vp, vf, vg, bk, ba, bc, bo, bh, bb, bf, bs))
    (K : ds_sz ds + 1 ≤ N → ds_nc ds + n ≤ C → ∀ (Q : List mt_M) (vn : Int32) (bk ba bc : Nat → Int32), ry_R N C H (fun i => if i < ds_nc ds then χ i else cv) ((.var n, Q) :: ds) vn vN vC vH bk ba bc → post 0 (vn, vN, vC, vH, vl, vh, 0, vf, vg, bk, ba, bc, bo, bh, bb, bf, bs)) : wpY_text post (vn, vN, vC, vH, vl, vh, vp, vf, vg, bk, ba, bc, bo, bh, bb, bf, bs) (nI cv) (nI n) := by
  obtain ⟨rfl, rfl, rfl, rfl, g, hbc⟩ := hy
  obtain ⟨hN8, hN40, hC64, hH, q1, q2, q3, hok, hχ⟩ := hp
  refine br_f (nI_nlt (b := 32) hc1 (by omega)) <| br_f (nI_nlt (a := 126) hc2 (by omega)) <| br_f (nI_pos (by omega)) <| br_t (nI_le (b := 8) hn (by omega)) <| yc_all hok g (by omega) <| br_c (fun c => K1 ?_) (fun c => ?_)
  · rw [nI_1, nI_ltI (by omega) (by omega)] at c; exact c
  · rw [nI_1, nI_ltI (by omega) (by omega)] at c
    refine br_c (fun c2 => Exists.intro (n + 1) ?_) (fun c2 => K2 (by omega) ?_)
    · rw [nI_add, nI_leI (by omega) (by omega)] at c2
      refine yt_loop (χ := χ) (by omega) (by omega) (by omega) (by omega) ?_ n 0 (n + 1) bc (by omega) (by omega) (fun i hi => by rw [if_pos (by omega)]; exact hbc i (by omega))
      intro bc' hbc'
      exact K (by omega) c2 [] _ _ _ _ ⟨rfl, rfl, rfl, rfl, ry_push hok g (fun j hj => ry_un (by omega)) ⟨pk_us, pk_us⟩, hbc'⟩
    · rw [nI_add, nI_leI (by omega) (by omega)] at c2; omega
/-! put -/
theorem yp_put {post : Int32 → SY → Prop} {N C H n cv : Nat} {χ : Nat → Nat} {L : List mt_M} {r : ds_D} (hp : ds_in N C H χ ((.var n, L) :: r)) (hy : ry_R N C H χ ((.var n, L) :: r) vn vN vC vH bk ba bc) (hc1 : 32 ≤ cv) (hc2 : cv ≤ 126)
    (K1 : C < ds_nc r + n + 1 → post (-5) (vn, vN, vC, vH, vl, vh, vp, vf, vg, bk, ba, bc, bo, bh, bb, bf, bs))
    (K : ds_nc r + n + 1 ≤ C → ∀ (Q : List mt_M) (vn : Int32) (bk ba bc : Nat → Int32), ry_R N C H (fun i => if i < ds_nc r + n then χ i else cv) ((.var (n + 1), Q) :: r) vn vN vC vH bk ba bc → post 0 (vn, vN, vC, vH, vl, vh, 0, vf, vg, bk, ba, bc, bo, bh, bb, bf, bs)) : wpY_put post (vn, vN, vC, vH, vl, vh, vp, vf, vg, bk, ba, bc, bo, bh, bb, bf, bs) (nI cv) := by
  obtain ⟨rfl, rfl, rfl, rfl, g, hbc⟩ := hy
  obtain ⟨hN8, hN40, hC64, hH, q1, q2, q3, hok, hχ⟩ := hp
  obtain ⟨g0, g1, g2⟩ := id g
  have hsz : ds_sz ((.var n, L) :: r) = ds_sz r + 1 := rfl
  have hnc : ds_nc ((.var n, L) :: r) = ds_nc r + n := rfl
  have cn : (nI (ds_sz r + 1) - 1).toNatClampNeg = ds_sz r := by rw [nI_pred]; exact nI_clamp (by omega)
  have hin : vp_in (nI (ds_sz r + 1) - 1) 40 := by rw [nI_pred]; exact vp_in_nI (by omega) (by omega)
  have cu : (nI (ds_nc r + n)).toNatClampNeg = ds_nc r + n := nI_clamp (by omega)
  refine br_f (nI_nlt (b := 32) hc1 (by omega)) <| br_t (nI_le (b := 126) hc2 (by omega)) <| br_f (nI_ne0 (by omega) (by omega)) <| And.intro hin <| br_t (by rw [show nI (ds_sz ((.var n, L) :: r)) - 1 = nI (ds_sz r + 1) - 1 from rfl, cn, g1]; rfl) <|
    yc_all hok g (by omega) <| br_c (fun c => ?_) (fun c => K1 ?_)
  · rw [nI_1, nI_leI (by omega) (by omega)] at c
    refine And.intro (vp_in_nI (n := ds_nc r + n) (by omega) (by omega)) <| nm_r (e' := upd bc (ds_nc r + n) (nI cv)) (by rw [show ds_nc ((.var n, L) :: r) = ds_nc r + n from rfl, cu, pk_b8 cv (by omega)]) <| And.intro hin <| And.intro hin <|
      nm_r (e' := upd ba (ds_sz r) (nI (n + 1))) (by rw [show nI (ds_sz ((.var n, L) :: r)) - 1 = nI (ds_sz r + 1) - 1 from rfl, cn, g2, nI_1]) <| K (by omega) [] _ _ _ _ ⟨rfl, rfl, rfl, rfl, ry_push hok.1 g0 (fun j hj => ⟨rfl, pk_un (by omega)⟩) ⟨g1, pk_us⟩, fun i hi => ?_⟩
    have hi' : i < ds_nc r + (n + 1) := hi
    dsimp only
    by_cases e : i = ds_nc r + n
    · rw [e, pk_us, if_neg (by omega)]
    · rw [pk_un e, if_pos (by omega)]; exact hbc i (by omega)
  · rw [nI_1, nI_leI (by omega) (by omega)] at c; omega
/-! drop -/
theorem yp_drop {post : Int32 → SY → Prop} {N C H : Nat} {χ : Nat → Nat} {p : tr_T × List mt_M} {r : ds_D} (hp : ds_in N C H χ (p :: r)) (hy : ry_R N C H χ (p :: r) vn vN vC vH bk ba bc)
    (K : ∀ (vn : Int32) (bk ba bc : Nat → Int32), ry_R N C H χ r vn vN vC vH bk ba bc → post 0 (vn, vN, vC, vH, vl, vh, 0, vf, vg, bk, ba, bc, bo, bh, bb, bf, bs)) : wpY_drop post (vn, vN, vC, vH, vl, vh, vp, vf, vg, bk, ba, bc, bo, bh, bb, bf, bs) := by
  obtain ⟨rfl, rfl, rfl, rfl, g, hbc⟩ := hy
  obtain ⟨hN8, hN40, hC64, hH, q1, q2, q3, hok, hχ⟩ := hp
  have := tr_sz_pos p.1
  simp only [ds_sz, ds_nc] at q1 hbc
  refine br_f (nI_ne0 (n := ds_sz r + tr_sz p.1) (by omega) (by omega)) <| yf_all (t := p.1) (s := ds_sz r) hok.2.1 g.2 (by omega) <| K _ _ _ _ ⟨rfl, rfl, rfl, rfl, g.1, fun i hi => hbc i (by omega)⟩
/-! copy -/
theorem yk_nodes {post : Int32 → SY → Prop} {s z : Nat} (hz : 0 < z) (hs : s + z + z ≤ 40) {bk0 ba0 : Nat → Int32}
    (K : ∀ bk ba : Nat → Int32, (∀ j, j < s + z → bk j = bk0 j ∧ ba j = ba0 j) → (∀ j, s ≤ j → j < s + z → bk (j + z) = bk0 j ∧ ba (j + z) = ba0 j) → post 0 (nI (s + z + z), vN, vC, vH, vl, vh, 0, vf, vg, bk, ba, bc, bo, bh, bb, bf, bs)) :
    ∀ (d i n : Nat) (vp : Int32) (bk ba : Nat → Int32), i + d = s + z → s ≤ i → d < n → (d = 0 → vp = 0) → (∀ j, j < s + z → bk j = bk0 j ∧ ba j = ba0 j) → (∀ j, s ≤ j → j < i → bk (j + z) = bk0 j ∧ ba (j + z) = ba0 j) →
      wY_copy_132 post (nI (s + z) - 1) n (nI i) (nI (i + z)) vN vC vH vl vh vp vf vg bk ba bc bo bh bb bf bs := by
  intro d
  induction d with
  | zero =>
    intro i n vp bk ba hi hsi hn hv h1 h2
    obtain ⟨n, rfl⟩ : ∃ k, n = k + 1 := ⟨n - 1, by omega⟩
    have e : i = s + z := by omega
    subst e
    have hv := hv rfl
    subst hv
    exact br_t ((yz_lt (by omega) (by omega)).mpr (Nat.le_refl _)) (K bk ba h1 h2)
  | succ d ih =>
    intro i n vp bk ba hi hsi hn hv h1 h2
    obtain ⟨n, rfl⟩ : ∃ k, n = k + 1 := ⟨n - 1, by omega⟩
    have ci : (nI i).toNatClampNeg = i := nI_clamp (by omega)
    have hin : vp_in (nI i) 40 := vp_in_nI (by omega) (by omega)
    refine br_f (by rw [yz_lt (by omega) (by omega)]; omega) <| And.intro hin <| And.intro hin <| yb_add (by omega) <| nm_r (nI_1 i) ?_
    rw [show i + z + 1 = i + 1 + z by omega, ci, (h1 i (by omega)).1, (h1 i (by omega)).2]
    refine ih (i + 1) n 0 _ _ (by omega) (by omega) (by omega) (fun _ => rfl) (fun j hj => ?_) (fun j q1 q2 => ?_)
    · exact ⟨(pk_un (by omega)).trans (h1 j hj).1, (pk_un (by omega)).trans (h1 j hj).2⟩
    · by_cases e : j = i
      · subst e; exact ⟨pk_us, pk_us⟩
      · exact ⟨(pk_un (by omega)).trans (h2 j q1 (by omega)).1, (pk_un (by omega)).trans (h2 j q1 (by omega)).2⟩
theorem yk_chars {post : Int32 → SY → Prop} {x1 x2 : Int32} {U m : Nat} (hm : m ≤ U) (hU : U + m ≤ 64) {χ : Nat → Nat} (hχ : ∀ i, χ i < 128)
    (K : ∀ bc : Nat → Int32, (∀ i, i < U + m → bc i = nI (if i < U then χ i else χ (i - m))) → ∃ n : Nat, wY_copy_132 post x1 n x2 vn vN vC vH vl vh vp vf vg bk ba bc bo bh bb bf bs) :
    ∀ (d j f : Nat) (bc : Nat → Int32), j + d = m → d < f → (∀ i, i < U + j → bc i = nI (if i < U then χ i else χ (i - m))) → wY_copy_95 post x1 x2 (nI U) (nI m) vn vN vC vH vl vh vp vf vg f (nI j) bk ba bc bo bh bb bf bs := by
  intro d
  induction d with
  | zero =>
    intro j f bc hj hf h
    obtain ⟨f, rfl⟩ : ∃ k, f = k + 1 := ⟨f - 1, by omega⟩
    rw [Nat.add_zero] at hj
    subst hj
    exact br_t (nI_le (Nat.le_refl _) (by omega)) (K bc h)
  | succ d ih =>
    intro j f bc hj hf h
    obtain ⟨f, rfl⟩ : ∃ k, f = k + 1 := ⟨f - 1, by omega⟩
    have e0 : nI U - nI m + nI j = nI (U - m + j) := by rw [pk_sub hm, nI_add]
    have c0 : (nI U - nI m + nI j).toNatClampNeg = U - m + j := by rw [e0]; exact nI_clamp (by omega)
    have c1 : (nI U + nI j).toNatClampNeg = U + j := by rw [nI_add]; exact nI_clamp (by omega)
    have hv : bc (U - m + j) = nI (χ (U - m + j)) := by rw [h _ (by omega), if_pos (by omega)]
    exact br_f (nI_ge (by omega) (by omega)) <| And.intro (by rw [e0]; exact vp_in_nI (by omega) (by omega)) <| And.intro (by rw [nI_add]; exact vp_in_nI (by omega) (by omega)) <|
      nm_r (e' := upd bc (U + j) (nI (χ (U - m + j)))) (by rw [c0, c1, hv, pk_b8' _ (hχ _)]) <| nm_r (nI_1 j) <| ih (j + 1) f _ (by omega) (by omega) fun i hi => by
        by_cases e : i = U + j
        · rw [e, pk_us, if_neg (by omega)]; exact congrArg (fun z => nI (χ z)) (by omega)
        · rw [pk_un e]; exact h i (by omega)
theorem yp_copy {post : Int32 → SY → Prop} {N C H : Nat} {χ : Nat → Nat} {t : tr_T} {L : List mt_M} {r : ds_D} (hp : ds_in N C H χ ((t, L) :: r)) (hy : ry_R N C H χ ((t, L) :: r) vn vN vC vH bk ba bc)
    (K1 : ¬ (ds_sz ((t, L) :: r) + tr_sz t ≤ N ∧ ds_nc ((t, L) :: r) + tr_nc t ≤ C ∧ ds_cc ((t, L) :: r) + tr_cc t ≤ H) → post (-5) (vn, vN, vC, vH, vl, vh, vp, vf, vg, bk, ba, bc, bo, bh, bb, bf, bs))
    (K : ds_sz ((t, L) :: r) + tr_sz t ≤ N → ds_nc ((t, L) :: r) + tr_nc t ≤ C → ds_cc ((t, L) :: r) + tr_cc t ≤ H → ∀ (Q : List mt_M) (vn : Int32) (bk ba bc : Nat → Int32), ry_R N C H (fun i => if i < ds_nc r + tr_nc t then χ i else χ (i - tr_nc t)) ((t, Q) :: (t, L) :: r) vn vN vC vH bk ba bc → post 0 (vn, vN, vC, vH, vl, vh, 0, vf, vg, bk, ba, bc, bo, bh, bb, bf, bs)) : wpY_copy post (vn, vN, vC, vH, vl, vh, vp, vf, vg, bk, ba, bc, bo, bh, bb, bf, bs) := by
  obtain ⟨rfl, rfl, rfl, rfl, g, hbc⟩ := hy
  obtain ⟨hN8, hN40, hC64, hH, q1, q2, q3, hok, hχ⟩ := hp
  have hz := tr_sz_pos t
  have es : ds_sz ((t, L) :: r) = ds_sz r + tr_sz t := rfl
  have en : ds_nc ((t, L) :: r) = ds_nc r + tr_nc t := rfl
  have ec : ds_cc ((t, L) :: r) = ds_cc r + tr_cc t := rfl
  have gt : ry_nd bk ba t (ds_sz r) := g.2
  refine br_f (nI_ne0 (by omega) (by omega)) <| nm_e <| yf_all (t := t) (s := ds_sz r) hok.2.1 gt (by omega) <| yc_all hok g (by omega) <| yc_one (t := t) (s := ds_sz r) hok.2.1 gt (by omega) ?_
  have e1 : nI (ds_sz ((t, L) :: r)) + (nI (ds_sz ((t, L) :: r)) - 1 - nI (ds_sz r) + 1) = nI (ds_sz ((t, L) :: r) + tr_sz t) := by
    rw [nI_m1 (by omega), pk_sub (by omega), nI_1, nI_add]; exact congrArg nI (by omega)
  rw [e1, nI_add, nI_ltI (by omega) (by omega), nI_leI (by omega) (by omega)]
  refine br_c (fun c => K1 (by omega)) (fun c => br_c (fun c2 => ?_) (fun c2 => K1 (by omega)))
  refine yh_all hok g (by omega) <| yh_one (t := t) (s := ds_sz r) hok.2.1 gt (by omega) ?_
  rw [nI_add, nI_leI (by omega) (by omega)]
  refine br_c (fun c3 => Exists.intro (tr_nc t + 1) ?_) (fun c3 => K1 (by omega))
  refine yk_chars (χ := χ) (by omega) (by omega) (fun i => by have := hχ i; omega) ?_ (tr_nc t) 0 (tr_nc t + 1) bc (by omega) (by omega) (fun i hi => by rw [if_pos (by omega)]; exact hbc i (by omega))
  intro bc' hbc'
  refine Exists.intro (tr_sz t + 1) ?_
  refine yk_nodes (s := ds_sz r) (z := tr_sz t) hz (by omega) ?_ (tr_sz t) (ds_sz r) (tr_sz t + 1) vp bk ba rfl (Nat.le_refl _) (by omega) (fun q => absurd q (by omega)) (fun j _ => ⟨rfl, rfl⟩) (fun j q1 q2 => absurd q2 (by omega))
  intro bk' ba' h1 h2
  exact K (by omega) c2 c3 [] _ _ _ _ ⟨rfl, rfl, rfl, rfl, ry_push (r := (t, L) :: r) hok g h1 (ry_nd_cg t hok.2.1 _ h2 gt), hbc'⟩
end
end
section
/-! Y: emit, lift, lower and the steps of write -/
theorem al_push {a : Nat → Int32} {O : List Nat} {l c : Nat} (hl : l = O.length) (h : al_at a 0 O) : al_at (upd a l (nI c)) 0 (O ++ [c]) := by
  refine (al_app O [c] 0).mpr ⟨al_cg O 0 (fun j _ hj => pk_un (by omega)) h, ?_, trivial⟩
  rw [Nat.zero_add, ← hl]; exact pk_us
theorem ch_ind {k : Nat} : ∀ (s : List Nat), (∀ c, c ∈ s → c < 127) → ∀ c, c ∈ sg_ind k s → c < 127
  | [], _, c, hc => by simp [sg_ind] at hc
  | x :: s, h, c, hc => by
    simp only [sg_ind] at hc
    have ih := ch_ind (k := k) s (fun d hd => h d (List.mem_cons_of_mem _ hd)) c
    by_cases hx : x = 10
    · rw [if_pos hx] at hc
      rcases List.mem_cons.mp hc with e | hc
      · omega
      · rcases List.mem_append.mp hc with hc | hc
        · have := (List.mem_replicate.mp hc).2; omega
        · exact ih hc
    · rw [if_neg hx] at hc
      rcases List.mem_cons.mp hc with e | hc
      · rw [e]; exact h x List.mem_cons_self
      · exact ih hc
/-- the states of the choice nodes of t, whose nodes begin at s and whose choices at o -/
def ys_at (bs : Nat → Int32) (F : Nat → Nat) : tr_T → Nat → Nat → Prop
  | .neg a, s, o => ys_at bs F a s o
  | .pow a _, s, o => ys_at bs F a s o
  | .add a b, s, o => ys_at bs F a s o ∧ ys_at bs F b (s + tr_sz a) (o + tr_cc a)
  | .sub a b, s, o => ys_at bs F a s o ∧ ys_at bs F b (s + tr_sz a) (o + tr_cc a)
  | .mul a b, s, o => ys_at bs F a s o ∧ ys_at bs F b (s + tr_sz a) (o + tr_cc a) ∧ bs (s + (tr_sz a + tr_sz b)) = nI (F (o + tr_cc a + tr_cc b))
  | _, _, _ => True
theorem ys_cg {bs bs' : Nat → Int32} {F F' : Nat → Nat} : ∀ t, tr_ok t → ∀ s o, (∀ j, s ≤ j → j < s + tr_sz t → bs' j = bs j) → (∀ j, o ≤ j → j < o + tr_cc t → F' j = F j) → ys_at bs F t s o → ys_at bs' F' t s o := by
  refine tr_ind ?_ ?_ ?_ ?_ ?_ ?_
  · intro n s o _ _ _; trivial
  · intro a _ ih s o h1 h2 g
    simp only [tr_sz] at h1
    exact ih s o (fun j p q => h1 j p (by omega)) h2 g
  · intro a k _ _ ih s o h1 h2 g
    simp only [tr_sz] at h1
    exact ih s o (fun j p q => h1 j p (by omega)) h2 g
  · intro a b _ _ iha ihb s o h1 h2 g
    simp only [tr_sz, tr_cc] at h1 h2
    exact ⟨iha s o (fun j p q => h1 j p (by omega)) (fun j p q => h2 j p (by omega)) g.1, ihb _ _ (fun j p q => h1 j (by omega) (by omega)) (fun j p q => h2 j (by omega) (by omega)) g.2⟩
  · intro a b _ _ iha ihb s o h1 h2 g
    simp only [tr_sz, tr_cc] at h1 h2
    exact ⟨iha s o (fun j p q => h1 j p (by omega)) (fun j p q => h2 j p (by omega)) g.1, ihb _ _ (fun j p q => h1 j (by omega) (by omega)) (fun j p q => h2 j (by omega) (by omega)) g.2⟩
  · intro a b _ _ iha ihb s o h1 h2 g
    simp only [tr_sz, tr_cc] at h1 h2
    refine ⟨iha s o (fun j p q => h1 j p (by omega)) (fun j p q => h2 j p (by omega)) g.1, ihb _ _ (fun j p q => h1 j (by omega) (by omega)) (fun j p q => h2 j (by omega) (by omega)) g.2.1, ?_⟩
    rw [h1 _ (by omega) (by omega), h2 _ (by omega) (by omega)]
    exact g.2.2
theorem ys_0 {bs : Nat → Int32} {F : Nat → Nat} : ∀ t, tr_ok t → ∀ s o, (∀ j, s ≤ j → j < s + tr_sz t → bs j = nI 0) → (∀ j, o ≤ j → j < o + tr_cc t → F j = 0) → ys_at bs F t s o := by
  refine tr_ind ?_ ?_ ?_ ?_ ?_ ?_
  · intro n s o _ _; trivial
  · intro a _ ih s o h1 h2
    simp only [tr_sz] at h1
    exact ih s o (fun j p q => h1 j p (by omega)) h2
  · intro a k _ _ ih s o h1 h2
    simp only [tr_sz] at h1
    exact ih s o (fun j p q => h1 j p (by omega)) h2
  · intro a b _ _ iha ihb s o h1 h2
    simp only [tr_sz, tr_cc] at h1 h2
    exact ⟨iha s o (fun j p q => h1 j p (by omega)) (fun j p q => h2 j p (by omega)), ihb _ _ (fun j p q => h1 j (by omega) (by omega)) (fun j p q => h2 j (by omega) (by omega))⟩
  · intro a b _ _ iha ihb s o h1 h2
    simp only [tr_sz, tr_cc] at h1 h2
    exact ⟨iha s o (fun j p q => h1 j p (by omega)) (fun j p q => h2 j p (by omega)), ihb _ _ (fun j p q => h1 j (by omega) (by omega)) (fun j p q => h2 j (by omega) (by omega))⟩
  · intro a b _ _ iha ihb s o h1 h2
    simp only [tr_sz, tr_cc] at h1 h2
    refine ⟨iha s o (fun j p q => h1 j p (by omega)) (fun j p q => h2 j p (by omega)), ihb _ _ (fun j p q => h1 j (by omega) (by omega)) (fun j p q => h2 j (by omega) (by omega)), ?_⟩
    rw [h1 _ (by omega) (by omega), h2 _ (by omega) (by omega)]
section
variable {vn vN vC vH vl vh vp vf vg : Int32} {bk ba bc bo bh bb bf bs : Nat → Int32}
theorem yw_emit {Φ : SY → Prop} {O : List Nat} {c : Nat} {x : Int32} (hl : O.length < 30000) (hc : c < 128) (hx : x = nI c) (h : al_at bo 0 O) (K : ∀ bo : Nat → Int32, al_at bo 0 (O ++ [c]) → Φ (vn, vN, vC, vH, nI (O ++ [c]).length, vh, vp, vf, vg, bk, ba, bc, bo, bh, bb, bf, bs)) : wpY_emit Φ (vn, vN, vC, vH, nI O.length, vh, vp, vf, vg, bk, ba, bc, bo, bh, bb, bf, bs) x := by
  subst hx
  have c0 : (nI O.length).toNatClampNeg = O.length := nI_clamp (by omega)
  exact br_f (nI_ge (b := 30000) hl (by omega)) <| And.intro (vp_in_nI hl (by omega)) <| nm_r (e' := upd bo O.length (nI c)) (by rw [c0, pk_b8 c hc]) <| nm_r (e' := nI (O ++ [c]).length) (by rw [nI_1, List.length_append]; rfl) <| K _ (al_push rfl h)
theorem yl_loop {post : SY → Prop} {A s : List Nat} (hA : A.length + s.length ≤ 30000) (hc : ∀ c, c ∈ s → c < 128) (h : al_at bo 0 (A ++ s)) (K : ∀ bh : Nat → Int32, al_at bh 0 s → post (vn, vN, vC, vH, nI A.length, nI s.length, vp, vf, vg, bk, ba, bc, bo, bh, bb, bf, bs)) :
    ∀ (R P : List Nat) (n : Nat) (bh : Nat → Int32), P ++ R = s → al_at bh 0 P → R.length < n → wY_lift_7 post (nI A.length) vn vN vC vH (nI (A.length + s.length)) vp vf vg n (nI (A.length + P.length)) (nI P.length) bk ba bc bo bh bb bf bs := by
  intro R
  induction R with
  | nil =>
    intro P n bh hPR hP hn
    obtain ⟨n, rfl⟩ : ∃ k, n = k + 1 := ⟨n - 1, by simp only [List.length_nil] at hn; omega⟩
    rw [List.append_nil] at hPR
    subst hPR
    exact br_t (nI_le (Nat.le_refl _) (by omega)) (K bh hP)
  | cons x R ih =>
    intro P n bh hPR hP hn
    simp only [List.length_cons] at hn
    obtain ⟨n, rfl⟩ : ∃ k, n = k + 1 := ⟨n - 1, by omega⟩
    have hlen : s.length = P.length + (R.length + 1) := by rw [← hPR, List.length_append, List.length_cons]
    have c1 : (nI (A.length + P.length)).toNatClampNeg = A.length + P.length := nI_clamp (by omega)
    have c2 : (nI P.length).toNatClampNeg = P.length := nI_clamp (by omega)
    have e : bo (A.length + P.length) = nI x := by
      have := al_get (A ++ s) 0 (A.length + P.length) x h (by rw [← hPR]; simp)
      rw [Nat.zero_add] at this; exact this
    have hx := hc x (by rw [← hPR]; simp)
    exact br_f (nI_ge (by omega) (by omega)) <| And.intro (vp_in_nI (by omega) (by omega)) <| And.intro (vp_in_nI (by omega) (by omega)) <| nm_r (e' := upd bh P.length (nI x)) (by rw [c1, c2, e, pk_b8' x hx]) <|
      nm_r (e' := nI (P ++ [x]).length) (by rw [nI_1, List.length_append]; rfl) <| nm_r (e' := nI (A.length + (P ++ [x]).length)) (by rw [nI_1, List.length_append]; rfl) <|
      ih (P ++ [x]) n _ (by rw [← hPR, List.append_assoc]; rfl) (al_push rfl hP) (by omega)
theorem yl_all {post : SY → Prop} {A s : List Nat} {x : Int32} (hx : x = nI A.length) (hA : A.length + s.length ≤ 30000) (hc : ∀ c, c ∈ s → c < 128) (h : al_at bo 0 (A ++ s)) (K : ∀ bh : Nat → Int32, al_at bh 0 s → post (vn, vN, vC, vH, nI A.length, nI s.length, vp, vf, vg, bk, ba, bc, bo, bh, bb, bf, bs)) : wpY_lift post (vn, vN, vC, vH, nI (A ++ s).length, vh, vp, vf, vg, bk, ba, bc, bo, bh, bb, bf, bs) x := by
  subst hx
  rw [List.length_append]
  exact Exists.intro (s.length + 1) (yl_loop hA hc h K s [] (s.length + 1) bh (List.nil_append _) trivial (Nat.lt_succ_self _))
theorem yo_sp {post : SY → Prop} {J : Int32 → Int32 → Int32 → Int32 → Int32 → Int32 → Int32 → Int32 → Int32 → Int32 → (Nat → Int32) → (Nat → Int32) → (Nat → Int32) → (Nat → Int32) → (Nat → Int32) → (Nat → Int32) → (Nat → Int32) → (Nat → Int32) → Prop} {k x2 : Nat} (hx2 : x2 < 30000) (hk : k < 1000) (hb : bh x2 = nI 10) {Q : List Nat} (hQ : Q.length < 30000) (K : ∀ bo : Nat → Int32, al_at bo 0 Q → J (nI (x2 + 1)) vn vN vC vH (nI Q.length) vh vp vf vg bk ba bc bo bh bb bf bs) :
    ∀ (d i n : Nat) (O : List Nat) (bo : Nat → Int32), i + d = k → d < n → al_at bo 0 O → O ++ List.replicate d 32 = Q → wY_lower_22 post J (nI k) (nI x2) n (nI i) vn vN vC vH (nI O.length) vh vp vf vg bk ba bc bo bh bb bf bs := by
  intro d
  induction d with
  | zero =>
    intro i n O bo hi hn h hO
    obtain ⟨n, rfl⟩ : ∃ k, n = k + 1 := ⟨n - 1, by omega⟩
    rw [List.replicate_zero, List.append_nil] at hO
    subst hO
    exact br_t (nI_le (by omega) (by omega)) <| nm_r (nI_1 x2) (K bo h)
  | succ d ih =>
    intro i n O bo hi hn h hO
    obtain ⟨n, rfl⟩ : ∃ k, n = k + 1 := ⟨n - 1, by omega⟩
    have c : (nI x2).toNatClampNeg = x2 := nI_clamp (by omega)
    have hl : O.length + (d + 1) = Q.length := by rw [← hO, List.length_append, List.length_replicate]
    exact br_f (nI_ge (by omega) (by omega)) <| And.intro (vp_in_nI (by omega) (by omega)) <| br_t (by rw [c, hb]; rfl) <| yw_emit (c := 32) (by omega) (by omega) rfl h fun bo' h' => nm_r (nI_1 i) <|
      ih (i + 1) n (O ++ [32]) bo' (by omega) (by omega) h' (by rw [← hO, List.append_assoc, List.replicate_succ]; rfl)
theorem yo_loop {post : SY → Prop} {k : Nat} {s Q : List Nat} (hk : k < 1000) (hs : s.length < 30000) (hQ : Q.length < 30000) (hc : ∀ c, c ∈ s → c < 128) (hb : al_at bh 0 s) (K : ∀ bo : Nat → Int32, al_at bo 0 Q → post (vn, vN, vC, vH, nI Q.length, nI s.length, vp, vf, vg, bk, ba, bc, bo, bh, bb, bf, bs)) :
    ∀ (R P : List Nat) (n : Nat) (O : List Nat) (bo : Nat → Int32), P ++ R = s → R.length < n → al_at bo 0 O → O ++ sg_ind k R = Q → wY_lower_2 post (nI k) n (nI P.length) vn vN vC vH (nI O.length) (nI s.length) vp vf vg bk ba bc bo bh bb bf bs := by
  intro R
  induction R with
  | nil =>
    intro P n O bo hPR hn h hO
    obtain ⟨n, rfl⟩ : ∃ k, n = k + 1 := ⟨n - 1, by simp only [List.length_nil] at hn; omega⟩
    rw [List.append_nil] at hPR
    subst hPR
    simp only [sg_ind, List.append_nil] at hO
    subst hO
    exact br_t (nI_le (Nat.le_refl _) (by omega)) (K bo h)
  | cons x R ih =>
    intro P n O bo hPR hn h hO
    simp only [List.length_cons] at hn
    obtain ⟨n, rfl⟩ : ∃ k, n = k + 1 := ⟨n - 1, by omega⟩
    have hlen : s.length = P.length + (R.length + 1) := by rw [← hPR, List.length_append, List.length_cons]
    have c1 : (nI P.length).toNatClampNeg = P.length := nI_clamp (by omega)
    have e : bh P.length = nI x := by
      have := al_get s 0 P.length x hb (by rw [← hPR]; simp)
      rw [Nat.zero_add] at this; exact this
    have hx := hc x (by rw [← hPR]; simp)
    have eP : P.length + 1 = (P ++ [x]).length := by rw [List.length_append]; rfl
    have hPR' : (P ++ [x]) ++ R = s := by rw [← hPR, List.append_assoc]; rfl
    by_cases h10 : x = 10
    · subst h10
      simp only [sg_ind, if_true] at hO
      have hl : O.length + (1 + (k + (sg_ind k R).length)) = Q.length := by rw [← hO]; simp only [List.length_append, List.length_cons, List.length_replicate]; omega
      refine br_f (nI_ge (by omega) (by omega)) <| And.intro (vp_in_nI (by omega) (by omega)) <| yw_emit (c := 10) (by omega) (by omega) (by rw [c1, e]) h fun bo' h' => Exists.intro (k + 1) ?_
      refine yo_sp (Q := (O ++ [10]) ++ List.replicate k 32) (by omega) hk e (by simp only [List.length_append, List.length_replicate, List.length_singleton]; omega) ?_ k 0 (k + 1) (O ++ [10]) bo' (by omega) (by omega) h' rfl
      intro bo2 h2
      rw [eP]
      exact ih (P ++ [10]) n _ bo2 hPR' (by omega) h2 (by rw [← hO]; simp only [List.append_assoc, List.singleton_append, List.cons_append, List.nil_append])
    · simp only [sg_ind] at hO
      rw [if_neg h10] at hO
      have hl : O.length + (1 + (sg_ind k R).length) = Q.length := by rw [← hO]; simp only [List.length_append, List.length_cons]; omega
      have hne : ¬ bh (nI P.length).toNatClampNeg = 10 := by
        rw [c1, e]
        intro q
        exact h10 ((nI_eq (b := 10) (by omega) (by omega)).mp q)
      refine br_f (nI_ge (by omega) (by omega)) <| And.intro (vp_in_nI (by omega) (by omega)) <| yw_emit (c := x) (by omega) hx (by rw [c1, e]) h fun bo' h' => Exists.intro 1 ?_
      have Z : wY_lower_2 post (nI k) n (nI (P.length + 1)) vn vN vC vH (nI (O ++ [x]).length) (nI s.length) vp vf vg bk ba bc bo' bh bb bf bs := by
        rw [eP]
        exact ih (P ++ [x]) n _ bo' hPR' (by omega) h' (by rw [← hO, List.append_assoc]; rfl)
      exact br_c (fun _ => nm_r (nI_1 _) Z) (fun _ => And.intro (vp_in_nI (by omega) (by omega)) <| br_f hne <| nm_r (nI_1 _) Z)
theorem yo_all {post : SY → Prop} {k : Nat} {O s : List Nat} {x : Int32} (hx : x = nI k) (hk : k < 1000) (hs : s.length < 30000) (hQ : (O ++ sg_ind k s).length < 30000) (hc : ∀ c, c ∈ s → c < 128) (hb : al_at bh 0 s) (h : al_at bo 0 O)
    (K : ∀ bo : Nat → Int32, al_at bo 0 (O ++ sg_ind k s) → post (vn, vN, vC, vH, nI (O ++ sg_ind k s).length, nI s.length, vp, vf, vg, bk, ba, bc, bo, bh, bb, bf, bs)) : wpY_lower post (vn, vN, vC, vH, nI O.length, nI s.length, vp, vf, vg, bk, ba, bc, bo, bh, bb, bf, bs) x := by
  subst hx
  exact Exists.intro (s.length + 1) (yo_loop hk hs hQ hc hb K s [] (s.length + 1) O bo (List.nil_append _) (Nat.lt_succ_self _) h rfl)
/-! the steps of write -/
theorem yx_loop {post : SY → Prop} {J : Int32 → Int32 → Int32 → Int32 → Int32 → Int32 → Int32 → Int32 → Int32 → Int32 → Int32 → Int32 → Int32 → (Nat → Int32) → (Nat → Int32) → (Nat → Int32) → (Nat → Int32) → (Nat → Int32) → (Nat → Int32) → (Nat → Int32) → (Nat → Int32) → Prop} {z m x5 x6 : Int32} {χ : Nat → Nat} {s k co : Nat} (hs : s < 40) (hk : ba s = nI k) (hco : co + k ≤ 64) (hbc : ∀ i, co ≤ i → i < co + k → bc i = nI (χ i)) (hχ : ∀ i, χ i ≤ 126) {O0 : List Nat} (hO : O0.length + k < 30000)
    (K : ∀ bo : Nat → Int32, al_at bo 0 (O0 ++ (List.range k).map (fun i => χ (co + i))) → J (nI (co + k)) x5 x6 (nI (s + 1)) vn vN vC vH (nI (O0 ++ (List.range k).map (fun i => χ (co + i))).length) vh vp vf vg bk ba bc bo bh bb bf bs) :
    ∀ (d j n : Nat) (bo : Nat → Int32), j + d = k → d < n → al_at bo 0 (O0 ++ (List.range j).map (fun i => χ (co + i))) → wY_write_66 post J z m (nI co) x5 x6 (nI s) n (nI j) vn vN vC vH (nI (O0 ++ (List.range j).map (fun i => χ (co + i))).length) vh vp vf vg bk ba bc bo bh bb bf bs := by
  have cs : (nI s).toNatClampNeg = s := nI_clamp (by omega)
  have hin : vp_in (nI s) 40 := vp_in_nI hs (by omega)
  intro d
  induction d with
  | zero =>
    intro j n bo hj hn h
    obtain ⟨n, rfl⟩ : ∃ k, n = k + 1 := ⟨n - 1, by omega⟩
    rw [Nat.add_zero] at hj
    subst hj
    exact And.intro hin <| br_t (by rw [cs, hk]; exact nI_le (Nat.le_refl _) (by omega)) <| And.intro hin <| nm_r (e' := nI (co + j)) (by rw [cs, hk, nI_add]) <| nm_r (nI_1 s) (K bo h)
  | succ d ih =>
    intro j n bo hj hn h
    obtain ⟨n, rfl⟩ : ∃ k, n = k + 1 := ⟨n - 1, by omega⟩
    have ca : (nI co + nI j).toNatClampNeg = co + j := by rw [nI_add]; exact nI_clamp (by omega)
    have eR : (O0 ++ (List.range j).map (fun i => χ (co + i))) ++ [χ (co + j)] = O0 ++ (List.range (j + 1)).map (fun i => χ (co + i)) := by
      rw [List.range_succ, List.map_append, List.append_assoc]; rfl
    refine And.intro hin <| br_f (by rw [cs, hk]; exact nI_ge (by omega) (by omega)) <| And.intro (by rw [nI_add]; exact vp_in_nI (by omega) (by omega)) <|
      yw_emit (c := χ (co + j)) (by simp only [List.length_append, List.length_map, List.length_range]; omega) (by have := hχ (co + j); omega) (by rw [ca]; exact hbc _ (by omega) (by omega)) h fun bo' h' => nm_r (nI_1 j) ?_
    rw [eR] at h' ⊢
    exact ih (j + 1) n bo' (by omega) (by omega) h'
theorem yn_loop {post : SY → Prop} {J : Int32 → Int32 → Int32 → Int32 → Int32 → Int32 → Int32 → Int32 → Int32 → Int32 → Int32 → Int32 → Int32 → (Nat → Int32) → (Nat → Int32) → (Nat → Int32) → (Nat → Int32) → (Nat → Int32) → (Nat → Int32) → (Nat → Int32) → (Nat → Int32) → Prop} {z m x4 x5 x6 : Int32} {s k : Nat} (hs : s < 40) (hk : ba s = nI k) (hk15 : k ≤ 15) {O0 sa : List Nat} (hsa : sa.length < 30000) (hO : (O0 ++ (List.replicate k 32 ++ sg_ind k sa)).length < 30000) (hc : ∀ c, c ∈ sa → c < 128) (hb : al_at bh 0 sa)
    (K : ∀ bo : Nat → Int32, al_at bo 0 (O0 ++ (List.replicate k 32 ++ sg_ind k sa)) → J x4 x5 x6 (nI (s + 1)) vn vN vC vH (nI (O0 ++ (List.replicate k 32 ++ sg_ind k sa)).length) (nI sa.length) vp vf vg bk ba bc bo bh bb bf bs) :
    ∀ (d j n : Nat) (bo : Nat → Int32), j + d = k → d < n → al_at bo 0 (O0 ++ List.replicate j 32) → wY_write_160 post J z m x4 x5 x6 (nI s) n (nI j) vn vN vC vH (nI (O0 ++ List.replicate j 32).length) (nI sa.length) vp vf vg bk ba bc bo bh bb bf bs := by
  have cs : (nI s).toNatClampNeg = s := nI_clamp (by omega)
  have hin : vp_in (nI s) 40 := vp_in_nI hs (by omega)
  intro d
  induction d with
  | zero =>
    intro j n bo hj hn h
    obtain ⟨n, rfl⟩ : ∃ k, n = k + 1 := ⟨n - 1, by omega⟩
    rw [Nat.add_zero] at hj
    subst hj
    rw [← List.append_assoc] at hO K
    exact And.intro hin <| br_t (by rw [cs, hk]; exact nI_le (Nat.le_refl _) (by omega)) <| And.intro hin <| yo_all (k := j) (by rw [cs, hk]) (by omega) hsa hO hc hb h fun bo' h' => nm_r (nI_1 s) (K bo' h')
  | succ d ih =>
    intro j n bo hj hn h
    obtain ⟨n, rfl⟩ : ∃ k, n = k + 1 := ⟨n - 1, by omega⟩
    have eR : (O0 ++ List.replicate j 32) ++ [32] = O0 ++ List.replicate (j + 1) 32 := by
      rw [List.replicate_succ', List.append_assoc]
    refine And.intro hin <| br_f (by rw [cs, hk]; exact nI_ge (by omega) (by omega)) <|
      yw_emit (c := 32) (by simp only [List.length_append, List.length_replicate] at hO ⊢; omega) (by omega) rfl h fun bo' h' => nm_r (nI_1 j) ?_
    rw [eR] at h' ⊢
    exact ih (j + 1) n bo' (by omega) (by omega) h'
theorem yb_loop {post : SY → Prop} {J : Int32 → Int32 → Int32 → Int32 → Int32 → Int32 → Int32 → Int32 → Int32 → Int32 → Int32 → Int32 → Int32 → (Nat → Int32) → (Nat → Int32) → (Nat → Int32) → (Nat → Int32) → (Nat → Int32) → (Nat → Int32) → (Nat → Int32) → (Nat → Int32) → Prop} {z m x4 x5 x6 : Int32} {s : Nat} {A sa sb : List Nat} {p : Nat} (hp1 : p < 1000) (hA : A.length + sa.length < 30000) (hsb : sb.length < 30000) (hO : ((A ++ sa) ++ sg_ind p sb).length < 30000) (hca : ∀ c, c ∈ sa → c < 128) (hc : ∀ c, c ∈ sb → c < 128) (hb : al_at bh 0 sb) (h : al_at bo 0 (A ++ sa))
    (K : ∀ bo : Nat → Int32, al_at bo 0 ((A ++ sa) ++ sg_ind p sb) → J x4 x5 x6 (nI (s + 1)) vn vN vC vH (nI ((A ++ sa) ++ sg_ind p sb).length) (nI sb.length) vp vf vg bk ba bc bo bh bb bf bs) :
    ∀ (R P : List Nat) (n : Nat) (q : Nat × Nat × Nat), P ++ R = sa → R.length < n → q.2.2 ≤ P.length → (sg_sc q R).2.2 = p → wY_write_237 post J z m x4 x5 x6 (nI s) vn vN vC vH (nI (A ++ sa).length) (nI sb.length) vp vf vg bk ba bc bo bh bb bf bs n (nI q.2.2) (nI (A.length + P.length)) := by
  intro R
  induction R with
  | nil =>
    intro P n q hPR hn hq hp
    obtain ⟨n, rfl⟩ : ∃ k, n = k + 1 := ⟨n - 1, by simp only [List.length_nil] at hn; omega⟩
    rw [List.append_nil] at hPR
    subst hPR
    have hp : q.2.2 = p := hp
    exact br_t (by rw [List.length_append]; exact nI_le (Nat.le_refl _) (by omega)) <| yo_all (k := p) (by rw [hp]) hp1 hsb hO hc hb h fun bo' h' => nm_r (nI_1 s) (K bo' h')
  | cons x R ih =>
    intro P n q hPR hn hq hp
    simp only [List.length_cons] at hn
    obtain ⟨n, rfl⟩ : ∃ k, n = k + 1 := ⟨n - 1, by omega⟩
    have hlen : sa.length = P.length + (R.length + 1) := by rw [← hPR, List.length_append, List.length_cons]
    have c1 : (nI (A.length + P.length)).toNatClampNeg = A.length + P.length := nI_clamp (by omega)
    have e : bo (A.length + P.length) = nI x := by
      have := al_get (A ++ sa) 0 (A.length + P.length) x h (by rw [← hPR]; simp)
      rw [Nat.zero_add] at this; exact this
    have hx := hca x (by rw [← hPR]; simp)
    have hPR' : (P ++ [x]) ++ R = sa := by rw [← hPR, List.append_assoc]; rfl
    have eN : nI (A.length + P.length) + 1 = nI (A.length + (P ++ [x]).length) := by rw [nI_1, List.length_append]; rfl
    have eP : (P ++ [x]).length = P.length + 1 := by rw [List.length_append]; rfl
    rw [sg_sc_cons] at hp
    by_cases h10 : x = 10
    · subst h10
      exact br_f (by rw [List.length_append]; exact nI_ge (by omega) (by omega)) <| And.intro (vp_in_nI (by omega) (by omega)) <| br_t (by rw [c1, e]; rfl) <| nm_r eN <|
        ih (P ++ [10]) n (sg_st q 10) hPR' (by omega) (by show 0 ≤ _; omega) hp
    · have e2 : (sg_st q x).2.2 = q.2.2 + 1 := by unfold sg_st; rw [if_neg h10]
      refine br_f (by rw [List.length_append]; exact nI_ge (by omega) (by omega)) <| And.intro (vp_in_nI (by omega) (by omega)) <| br_f (by rw [c1, e]; exact fun q => h10 ((nI_eq (b := 10) (by omega) (by omega)).mp q)) <|
        nm_r (e' := nI (sg_st q x).2.2) (by rw [e2]; exact nI_1 _) <| nm_r eN <| ih (P ++ [x]) n (sg_st q x) hPR' (by omega) (by omega) hp
theorem ys_loop {post : SY → Prop} {J : Int32 → Int32 → Int32 → Int32 → Int32 → Int32 → Int32 → Int32 → Int32 → Int32 → Int32 → Int32 → Int32 → (Nat → Int32) → (Nat → Int32) → (Nat → Int32) → (Nat → Int32) → (Nat → Int32) → (Nat → Int32) → (Nat → Int32) → (Nat → Int32) → Prop} {z m x4 x5 x6 x8 : Int32} {s lo e v : Nat} (hs : s < 40) (he : e ≤ 40) {bs0 : Nat → Int32} (hv : (x8 = 0 ∧ v = 1) ∨ (¬ x8 = 0 ∧ v = 2))
    (K : ∀ bs : Nat → Int32, (∀ j, lo ≤ j → j < e → bs j = nI 0) → (∀ j, j < lo ∨ e ≤ j → bs j = bs0 j) → J x4 x5 x6 (nI (s + 1)) vn vN vC vH vl vh vp vf vg bk ba bc bo bh bb bf (upd bs s (nI v))) :
    ∀ (d i n : Nat) (bs : Nat → Int32), i + d = e → lo ≤ i → d < n → (∀ j, lo ≤ j → j < i → bs j = nI 0) → (∀ j, j < lo ∨ i ≤ j → bs j = bs0 j) → wY_write_400 post J z m x4 x5 x6 (nI s) x8 (nI e) vn vN vC vH vl vh vp vf vg n (nI i) bk ba bc bo bh bb bf bs := by
  have cs : (nI s).toNatClampNeg = s := nI_clamp (by omega)
  have hin : vp_in (nI s) 40 := vp_in_nI hs (by omega)
  intro d
  induction d with
  | zero =>
    intro i n bs hi hlo hn h1 h2
    obtain ⟨n, rfl⟩ : ∃ k, n = k + 1 := ⟨n - 1, by omega⟩
    have ei : i = e := by omega
    subst ei
    refine br_t (nI_le (Nat.le_refl _) (by omega)) ?_
    rcases hv with ⟨h8, rfl⟩ | ⟨h8, rfl⟩
    · exact br_t h8 <| And.intro hin <| nm_r (e' := upd bs s (nI 1)) (by rw [cs]; rfl) <| nm_r (nI_1 s) (K bs h1 h2)
    · exact br_f h8 <| And.intro hin <| nm_r (e' := upd bs s (nI 2)) (by rw [cs]; rfl) <| nm_r (nI_1 s) (K bs h1 h2)
  | succ d ih =>
    intro i n bs hi hlo hn h1 h2
    obtain ⟨n, rfl⟩ : ∃ k, n = k + 1 := ⟨n - 1, by omega⟩
    have ci : (nI i).toNatClampNeg = i := nI_clamp (by omega)
    refine br_f (nI_ge (by omega) (by omega)) <| And.intro (vp_in_nI (by omega) (by omega)) <| nm_r (e' := upd bs i (nI 0)) (by rw [ci]; rfl) <| nm_r (nI_1 i) <| ih (i + 1) n _ (by omega) (by omega) (by omega) (fun j p q => ?_) (fun j q => ?_)
    · by_cases e' : j = i
      · rw [e', pk_us]
      · rw [pk_un e']; exact h1 j p (by omega)
    · rw [pk_un (by omega)]; exact h2 j (by omega)
end
end
section
section
variable {vn vN vC vH vl vh vp vf vg : Int32} {bk ba bc bo bh bb bf bs : Nat → Int32}
theorem yw_tree {post : SY → Prop} {χ : Nat → Nat} {m e : Nat} (hm : m < 2 ^ 31) (he : e ≤ 40) (hχ : ∀ i, 32 ≤ χ i ∧ χ i ≤ 126) : ∀ t, tr_ok t → ∀ s co o, ry_nd bk ba t s → (∀ i, co ≤ i → i < co + tr_nc t → bc i = nI (χ i)) → s + tr_sz t ≤ e → co + tr_nc t ≤ 64 → o + tr_cc t ≤ 6 →
    ∀ (O : List Nat) (d n : Nat) (vl vh : Int32) (bo bh bb bf bs : Nat → Int32), vl = nI O.length → al_at bo 0 O → O.length + 665 * tr_sz t ≤ 29000 → d + tr_sz t ≤ 40 →
    (∀ (vl' vh' : Int32) (bo' bh' bb' bf' bs' : Nat → Int32), vl' = nI (O ++ tr_str χ (fun j => m.testBit j) t co o).length → al_at bo' 0 (O ++ tr_str χ (fun j => m.testBit j) t co o) → bb' d = nI O.length → bf' d = nI s → (∀ j, j < d → bb' j = bb j ∧ bf' j = bf j) →
      ys_at bs' (tr_sf (fun j => m.testBit j) t o) t s o → (∀ j, j < s ∨ s + tr_sz t ≤ j → bs' j = bs j) → wY_write_24 post (nI e - 1) (nI m) n (nI (co + tr_nc t)) (nI (d + 1)) (nI (o + tr_cc t)) (nI (s + tr_sz t)) vn vN vC vH vl' vh' vp vf vg bk ba bc bo' bh' bb' bf' bs') →
    wY_write_24 post (nI e - 1) (nI m) (n + tr_sz t) (nI co) (nI d) (nI o) (nI s) vn vN vC vH vl vh vp vf vg bk ba bc bo bh bb bf bs := by
  have hχ10 : ∀ i, χ i ≠ 10 := fun i => by have := hχ i; omega
  have ch : ∀ t, tr_ok t → ∀ c o x, x ∈ tr_str χ (fun j => m.testBit j) t c o → x < 128 := fun t ht c o x hx => by
    have := tr_str_ch χ (fun j => m.testBit j) hχ t ht c o x hx; omega
  refine tr_ind ?_ ?_ ?_ ?_ ?_ ?_
  · intro k s co o g hbc hs hco ho O d n vl vh bo bh bb bf bs hvl hbo hB hd K
    subst hvl
    simp only [tr_sz, tr_nc, tr_cc] at hs hco hB hd hbc K ⊢
    have cs : (nI s).toNatClampNeg = s := nI_clamp (by omega)
    have hin : vp_in (nI s) 40 := vp_in_nI (by omega) (by omega)
    have cd : (nI d).toNatClampNeg = d := nI_clamp (by omega)
    have hdn : vp_in (nI d) 40 := vp_in_nI (by omega) (by omega)
    refine br_f (by rw [yz_lt he (by omega)]; omega) <| And.intro hin <| br_t (by rw [cs, g.1]; rfl) <| And.intro hdn <| nm_r (e' := upd bb d (nI O.length)) (by rw [cd]) <| And.intro hdn <| nm_r (e' := upd bf d (nI s)) (by rw [cd]) <| nm_r (nI_1 d) <| Exists.intro (k + 1) ?_
    have Z := yx_loop (post := post) (J := wY_write_24 post (nI e - 1) (nI m) n) (z := nI e - 1) (m := nI m) (x5 := nI (d + 1)) (x6 := nI o) (χ := χ) (s := s) (k := k) (co := co) (vn := vn) (vN := vN) (vC := vC) (vH := vH) (vh := vh) (vp := vp) (vf := vf) (vg := vg) (bk := bk) (ba := ba) (bc := bc) (bh := bh) (bb := upd bb d (nI O.length)) (bf := upd bf d (nI s)) (bs := bs) (by omega) g.2 (by omega) hbc (fun i => (hχ i).2) (O0 := O) (by omega)
      (fun bo' h' => K _ _ _ _ _ _ _ rfl h' pk_us pk_us (fun j hj => ⟨pk_un (by omega), pk_un (by omega)⟩) trivial (fun j _ => rfl)) k 0 (k + 1) bo (by omega) (by omega) (by simpa using hbo)
    simpa [nI_0] using Z
  · intro a ha ih s co o g hbc hs hco ho O d n vl vh bo bh bb bf bs hvl hbo hB hd K
    subst hvl
    simp only [tr_sz, tr_nc, tr_cc] at hs hco ho hB hd hbc K ⊢
    have hla := tr_str_len χ (fun j => m.testBit j) hχ10 a ha co o (by omega) (by omega)
    rw [show n + (tr_sz a + 1) = (n + 1) + tr_sz a by omega]
    refine ih s co o g.1 hbc (by omega) hco ho O d (n + 1) _ vh bo bh bb bf bs rfl hbo (by omega) (by omega) ?_
    intro vl1 vh1 bo1 bh1 bb1 bf1 bs1 hvl1 hbo1 hbb1 hbf1 hlow1 hys1 hfr1
    subst hvl1
    have cs : (nI (s + tr_sz a)).toNatClampNeg = s + tr_sz a := nI_clamp (by omega)
    have hin : vp_in (nI (s + tr_sz a)) 40 := vp_in_nI (by omega) (by omega)
    refine br_f (by rw [yz_lt he (by omega)]; omega) <| And.intro hin <| br_f (by rw [cs, g.2]; decide) <| And.intro hin <| br_t (by rw [cs, g.2]; rfl) <| yw_emit (c := 10) (by rw [List.length_append]; omega) (by omega) rfl hbo1 fun bo' h' => nm_r (nI_1 _) ?_
    have es : tr_str χ (fun j => m.testBit j) (.neg a) co o = tr_str χ (fun j => m.testBit j) a co o ++ [10] := rfl
    rw [es] at K
    rw [List.append_assoc] at h' ⊢
    exact K _ _ _ _ _ _ _ rfl h' hbb1 hbf1 hlow1 hys1 (fun j hj => hfr1 j (by omega))
  · intro a k ha hk ih s co o g hbc hs hco ho O d n vl vh bo bh bb bf bs hvl hbo hB hd K
    subst hvl
    have hlt := tr_str_len χ (fun j => m.testBit j) hχ10 (.pow a k) ⟨ha, hk⟩ co o (by omega) (by omega)
    have es : tr_str χ (fun j => m.testBit j) (.pow a k) co o = List.replicate k 32 ++ sg_ind k (tr_str χ (fun j => m.testBit j) a co o) := rfl
    rw [es] at hlt K
    simp only [tr_sz, tr_nc, tr_cc] at hs hco ho hB hd hbc K hlt ⊢
    have hla := tr_str_len χ (fun j => m.testBit j) hχ10 a ha co o (by omega) (by omega)
    rw [show n + (tr_sz a + 1) = (n + 1) + tr_sz a by omega]
    refine ih s co o g.1 hbc (by omega) hco ho O d (n + 1) _ vh bo bh bb bf bs rfl hbo (by omega) (by omega) ?_
    intro vl1 vh1 bo1 bh1 bb1 bf1 bs1 hvl1 hbo1 hbb1 hbf1 hlow1 hys1 hfr1
    subst hvl1
    have cs : (nI (s + tr_sz a)).toNatClampNeg = s + tr_sz a := nI_clamp (by omega)
    have hin : vp_in (nI (s + tr_sz a)) 40 := vp_in_nI (by omega) (by omega)
    have cd : (nI (d + 1) - 1).toNatClampNeg = d := by rw [nI_pred]; exact nI_clamp (by omega)
    refine br_f (by rw [yz_lt he (by omega)]; omega) <| And.intro hin <| br_f (by rw [cs, g.2.1]; decide) <| And.intro hin <| br_f (by rw [cs, g.2.1]; decide) <| And.intro hin <| br_t (by rw [cs, g.2.1]; rfl) <|
      And.intro (by rw [nI_pred]; exact vp_in_nI (by omega) (by omega)) <| yl_all (A := O) (s := tr_str χ (fun j => m.testBit j) a co o) (by rw [cd, hbb1]) (by omega) (ch a ha co o) hbo1 fun bh2 hbh2 => Exists.intro (k + 1) ?_
    have Z := yn_loop (post := post) (J := wY_write_24 post (nI e - 1) (nI m) n) (z := nI e - 1) (m := nI m) (x4 := nI (co + tr_nc a)) (x5 := nI (d + 1)) (x6 := nI (o + tr_cc a)) (s := s + tr_sz a) (k := k) (vn := vn) (vN := vN) (vC := vC) (vH := vH) (vp := vp) (vf := vf) (vg := vg) (bk := bk) (ba := ba) (bc := bc) (bh := bh2) (bb := bb1) (bf := bf1) (bs := bs1) (by omega) g.2.2 hk (O0 := O) (sa := tr_str χ (fun j => m.testBit j) a co o) (by omega) (by rw [List.length_append]; omega) (ch a ha co o) hbh2
      (fun bo' h' => K _ _ _ _ _ _ _ rfl h' hbb1 hbf1 hlow1 hys1 (fun j hj => hfr1 j (by omega))) k 0 (k + 1) bo1 (by omega) (by omega) (by simpa using ((al_app _ _ 0).mp hbo1).1)
    simpa [nI_0] using Z
  · intro a b ha hb iha ihb s co o g hbc hs hco ho O d n vl vh bo bh bb bf bs hvl hbo hB hd K
    subst hvl
    have hlt := tr_str_len χ (fun j => m.testBit j) hχ10 (.add a b) ⟨ha, hb⟩ co o (by omega) (by omega)
    have es : tr_str χ (fun j => m.testBit j) (.add a b) co o = tr_str χ (fun j => m.testBit j) a co o ++ sg_ind (sg_ms (tr_str χ (fun j => m.testBit j) a co o)).2.2 (tr_str χ (fun j => m.testBit j) b (co + tr_nc a) (o + tr_cc a)) := rfl
    have ef : ∀ j, tr_sf (fun j => m.testBit j) (.add a b) o j = if j < o + tr_cc a then tr_sf (fun j => m.testBit j) a o j else tr_sf (fun j => m.testBit j) b (o + tr_cc a) j := fun j => rfl
    rw [es] at hlt K
    simp only [tr_sz, tr_nc, tr_cc] at hs hco ho hB hd hbc K hlt ⊢
    have hla := tr_str_len χ (fun j => m.testBit j) hχ10 a ha co o (by omega) (by omega)
    have hlb := tr_str_len χ (fun j => m.testBit j) hχ10 b hb (co + tr_nc a) (o + tr_cc a) (by omega) (by omega)
    have hms := tr_str_ms χ (fun j => m.testBit j) hχ10 a ha co o
    have hmb := tr_ms_bd (fun j => m.testBit j) a ha o
    have hp : (sg_ms (tr_str χ (fun j => m.testBit j) a co o)).2.2 < 1000 := by rw [hms]; dsimp only; omega
    have hza := tr_sz_pos a
    have cha := ch a ha co o
    have chb := ch b hb (co + tr_nc a) (o + tr_cc a)
    rw [show n + (tr_sz a + tr_sz b + 1) = ((n + 1) + tr_sz b) + tr_sz a by omega]
    refine iha s co o g.1 (fun i h1 h2 => hbc i h1 (by omega)) (by omega) (by omega) (by omega) O d ((n + 1) + tr_sz b) _ vh bo bh bb bf bs rfl hbo (by omega) (by omega) ?_
    generalize tr_str χ (fun j => m.testBit j) a co o = sa at *
    intro vl1 vh1 bo1 bh1 bb1 bf1 bs1 hvl1 hbo1 hbb1 hbf1 hlow1 hys1 hfr1
    refine ihb (s + tr_sz a) (co + tr_nc a) (o + tr_cc a) g.2.1 (fun i h1 h2 => hbc i (by omega) (by omega)) (by omega) (by omega) (by omega) (O ++ sa) (d + 1) (n + 1) vl1 vh1 bo1 bh1 bb1 bf1 bs1 hvl1 hbo1 (by rw [List.length_append]; omega) (by omega) ?_
    generalize tr_str χ (fun j => m.testBit j) b (co + tr_nc a) (o + tr_cc a) = sb at *
    intro vl2 vh2 bo2 bh2 bb2 bf2 bs2 hvl2 hbo2 hbb2 hbf2 hlow2 hys2 hfr2
    subst hvl2
    rw [show s + tr_sz a + tr_sz b = s + (tr_sz a + tr_sz b) by omega, show co + tr_nc a + tr_nc b = co + (tr_nc a + tr_nc b) by omega, show o + tr_cc a + tr_cc b = o + (tr_cc a + tr_cc b) by omega]
    have cs : (nI (s + (tr_sz a + tr_sz b))).toNatClampNeg = s + (tr_sz a + tr_sz b) := nI_clamp (by omega)
    have hin : vp_in (nI (s + (tr_sz a + tr_sz b))) 40 := vp_in_nI (by omega) (by omega)
    have cd : (nI (d + 1) - 1).toNatClampNeg = d := by rw [nI_pred]; exact nI_clamp (by omega)
    have cd1 : (nI (d + 1)).toNatClampNeg = d + 1 := nI_clamp (by omega)
    obtain ⟨l1, l2⟩ := hlow2 d (by omega)
    rw [List.length_append] at hlt
    refine br_f (by rw [yz_lt he (by omega)]; omega) <| And.intro hin <| br_f (by rw [cs, g.2.2]; decide) <| And.intro hin <| br_f (by rw [cs, g.2.2]; decide) <| And.intro hin <| br_f (by rw [cs, g.2.2]; decide) <|
      nm_r (e' := nI (d + 1)) (pk_m1 _) <| And.intro (vp_in_nI (by omega) (by omega)) <| yl_all (A := O ++ sa) (s := sb) (by rw [cd1, hbb2]) (by rw [List.length_append]; omega) chb hbo2 fun bh3 hbh3 => And.intro hin <| br_t (by rw [cs, g.2.2]; rfl) <|
      And.intro (by rw [nI_pred]; exact vp_in_nI (by omega) (by omega)) <| nm_r (e' := nI O.length) (by rw [cd, l1, hbb1]) <| Exists.intro (sa.length + 1) ?_
    refine yb_loop (A := O) (sa := sa) (sb := sb) (p := (sg_ms sa).2.2) hp (by omega) (by omega) (by rw [List.length_append, List.length_append]; omega) cha chb hbh3 ((al_app _ _ 0).mp hbo2).1 ?_ sa [] (sa.length + 1) (1, 0, 0) (List.nil_append _) (Nat.lt_succ_self _) (Nat.le_refl _) rfl
    intro bo3 h3
    rw [List.append_assoc] at h3 ⊢
    refine K _ _ _ _ _ _ _ rfl h3 (l1.trans hbb1) (l2.trans hbf1) (fun j hj => ⟨(hlow2 j (by omega)).1.trans (hlow1 j hj).1, (hlow2 j (by omega)).2.trans (hlow1 j hj).2⟩) ⟨?_, ?_⟩ (fun j hj => (hfr2 j (by omega)).trans (hfr1 j (by omega)))
    · exact ys_cg a ha s o (fun j p q => hfr2 j (by omega)) (fun j p q => by rw [ef, if_pos q]) hys1
    · exact ys_cg b hb _ _ (fun j p q => rfl) (fun j p q => by rw [ef, if_neg (by omega)]) hys2
  · intro a b ha hb iha ihb s co o g hbc hs hco ho O d n vl vh bo bh bb bf bs hvl hbo hB hd K
    subst hvl
    have hlt := tr_str_len χ (fun j => m.testBit j) hχ10 (.sub a b) ⟨ha, hb⟩ co o (by omega) (by omega)
    have es : tr_str χ (fun j => m.testBit j) (.sub a b) co o = tr_str χ (fun j => m.testBit j) a co o ++ 10 :: tr_str χ (fun j => m.testBit j) b (co + tr_nc a) (o + tr_cc a) := rfl
    have ef : ∀ j, tr_sf (fun j => m.testBit j) (.sub a b) o j = if j < o + tr_cc a then tr_sf (fun j => m.testBit j) a o j else tr_sf (fun j => m.testBit j) b (o + tr_cc a) j := fun j => rfl
    rw [es] at hlt K
    simp only [tr_sz, tr_nc, tr_cc] at hs hco ho hB hd hbc K hlt ⊢
    have hla := tr_str_len χ (fun j => m.testBit j) hχ10 a ha co o (by omega) (by omega)
    have hlb := tr_str_len χ (fun j => m.testBit j) hχ10 b hb (co + tr_nc a) (o + tr_cc a) (by omega) (by omega)
    have hza := tr_sz_pos a
    have chb := ch b hb (co + tr_nc a) (o + tr_cc a)
    rw [show n + (tr_sz a + tr_sz b + 1) = ((n + 1) + tr_sz b) + tr_sz a by omega]
    refine iha s co o g.1 (fun i h1 h2 => hbc i h1 (by omega)) (by omega) (by omega) (by omega) O d ((n + 1) + tr_sz b) _ vh bo bh bb bf bs rfl hbo (by omega) (by omega) ?_
    generalize tr_str χ (fun j => m.testBit j) a co o = sa at *
    intro vl1 vh1 bo1 bh1 bb1 bf1 bs1 hvl1 hbo1 hbb1 hbf1 hlow1 hys1 hfr1
    refine ihb (s + tr_sz a) (co + tr_nc a) (o + tr_cc a) g.2.1 (fun i h1 h2 => hbc i (by omega) (by omega)) (by omega) (by omega) (by omega) (O ++ sa) (d + 1) (n + 1) vl1 vh1 bo1 bh1 bb1 bf1 bs1 hvl1 hbo1 (by rw [List.length_append]; omega) (by omega) ?_
    generalize tr_str χ (fun j => m.testBit j) b (co + tr_nc a) (o + tr_cc a) = sb at *
    intro vl2 vh2 bo2 bh2 bb2 bf2 bs2 hvl2 hbo2 hbb2 hbf2 hlow2 hys2 hfr2
    subst hvl2
    rw [show s + tr_sz a + tr_sz b = s + (tr_sz a + tr_sz b) by omega, show co + tr_nc a + tr_nc b = co + (tr_nc a + tr_nc b) by omega, show o + tr_cc a + tr_cc b = o + (tr_cc a + tr_cc b) by omega]
    have cs : (nI (s + (tr_sz a + tr_sz b))).toNatClampNeg = s + (tr_sz a + tr_sz b) := nI_clamp (by omega)
    have hin : vp_in (nI (s + (tr_sz a + tr_sz b))) 40 := vp_in_nI (by omega) (by omega)
    have cd1 : (nI (d + 1)).toNatClampNeg = d + 1 := nI_clamp (by omega)
    obtain ⟨l1, l2⟩ := hlow2 d (by omega)
    rw [List.length_append, List.length_cons] at hlt
    have e0 : ((O ++ sa) ++ [10]) ++ sg_ind 0 sb = O ++ (sa ++ 10 :: sb) := by rw [sg_ind_0]; simp only [List.append_assoc, List.singleton_append]
    refine br_f (by rw [yz_lt he (by omega)]; omega) <| And.intro hin <| br_f (by rw [cs, g.2.2]; decide) <| And.intro hin <| br_f (by rw [cs, g.2.2]; decide) <| And.intro hin <| br_f (by rw [cs, g.2.2]; decide) <|
      nm_r (e' := nI (d + 1)) (pk_m1 _) <| And.intro (vp_in_nI (by omega) (by omega)) <| yl_all (A := O ++ sa) (s := sb) (by rw [cd1, hbb2]) (by rw [List.length_append]; omega) chb hbo2 fun bh3 hbh3 => And.intro hin <| br_f (by rw [cs, g.2.2]; decide) <| And.intro hin <| br_t (by rw [cs, g.2.2]; rfl) <|
      yw_emit (c := 10) (by rw [List.length_append]; omega) (by omega) rfl ((al_app _ _ 0).mp hbo2).1 fun bo3 h3 => yo_all (k := 0) rfl (by omega) (by omega) (by rw [e0]; simp only [List.length_append, List.length_cons]; omega) chb hbh3 h3 fun bo4 h4 => nm_r (nI_1 _) ?_
    rw [e0] at h4 ⊢
    refine K _ _ _ _ _ _ _ rfl h4 (l1.trans hbb1) (l2.trans hbf1) (fun j hj => ⟨(hlow2 j (by omega)).1.trans (hlow1 j hj).1, (hlow2 j (by omega)).2.trans (hlow1 j hj).2⟩) ⟨?_, ?_⟩ (fun j hj => (hfr2 j (by omega)).trans (hfr1 j (by omega)))
    · exact ys_cg a ha s o (fun j p q => hfr2 j (by omega)) (fun j p q => by rw [ef, if_pos q]) hys1
    · exact ys_cg b hb _ _ (fun j p q => rfl) (fun j p q => by rw [ef, if_neg (by omega)]) hys2
  · intro a b ha hb iha ihb s co o g hbc hs hco ho O d n vl vh bo bh bb bf bs hvl hbo hB hd K
    subst hvl
    have es : tr_str χ (fun j => m.testBit j) (.mul a b) co o = if m.testBit (o + tr_cc a + tr_cc b) = true then tr_str χ (fun j => m.testBit j) b (co + tr_nc a) (o + tr_cc a) else tr_str χ (fun j => m.testBit j) a co o := rfl
    have ef : ∀ j, tr_sf (fun j => m.testBit j) (.mul a b) o j = if j = o + tr_cc a + tr_cc b then (if m.testBit (o + tr_cc a + tr_cc b) = true then 2 else 1) else if m.testBit (o + tr_cc a + tr_cc b) = true then (if j < o + tr_cc a then 0 else tr_sf (fun j => m.testBit j) b (o + tr_cc a) j) else (if j < o + tr_cc a then tr_sf (fun j => m.testBit j) a o j else 0) := fun j => rfl
    rw [es] at K
    simp only [tr_sz, tr_nc, tr_cc] at hs hco ho hB hd hbc K ⊢
    have hla := tr_str_len χ (fun j => m.testBit j) hχ10 a ha co o (by omega) (by omega)
    have hlb := tr_str_len χ (fun j => m.testBit j) hχ10 b hb (co + tr_nc a) (o + tr_cc a) (by omega) (by omega)
    have hza := tr_sz_pos a
    have hzb := tr_sz_pos b
    have chb := ch b hb (co + tr_nc a) (o + tr_cc a)
    rw [show n + (tr_sz a + tr_sz b + 1) = ((n + 1) + tr_sz b) + tr_sz a by omega]
    refine iha s co o g.1 (fun i h1 h2 => hbc i h1 (by omega)) (by omega) (by omega) (by omega) O d ((n + 1) + tr_sz b) _ vh bo bh bb bf bs rfl hbo (by omega) (by omega) ?_
    generalize tr_str χ (fun j => m.testBit j) a co o = sa at *
    intro vl1 vh1 bo1 bh1 bb1 bf1 bs1 hvl1 hbo1 hbb1 hbf1 hlow1 hys1 hfr1
    refine ihb (s + tr_sz a) (co + tr_nc a) (o + tr_cc a) g.2.1 (fun i h1 h2 => hbc i (by omega) (by omega)) (by omega) (by omega) (by omega) (O ++ sa) (d + 1) (n + 1) vl1 vh1 bo1 bh1 bb1 bf1 bs1 hvl1 hbo1 (by rw [List.length_append]; omega) (by omega) ?_
    generalize tr_str χ (fun j => m.testBit j) b (co + tr_nc a) (o + tr_cc a) = sb at *
    intro vl2 vh2 bo2 bh2 bb2 bf2 bs2 hvl2 hbo2 hbb2 hbf2 hlow2 hys2 hfr2
    subst hvl2
    rw [show s + tr_sz a + tr_sz b = s + (tr_sz a + tr_sz b) by omega, show co + tr_nc a + tr_nc b = co + (tr_nc a + tr_nc b) by omega]
    have cs : (nI (s + (tr_sz a + tr_sz b))).toNatClampNeg = s + (tr_sz a + tr_sz b) := nI_clamp (by omega)
    have hin : vp_in (nI (s + (tr_sz a + tr_sz b))) 40 := vp_in_nI (by omega) (by omega)
    have cd : (nI (d + 1) - 1).toNatClampNeg = d := by rw [nI_pred]; exact nI_clamp (by omega)
    have cd1 : (nI (d + 1)).toNatClampNeg = d + 1 := nI_clamp (by omega)
    have hd0 : vp_in (nI (d + 1) - 1) 40 := by rw [nI_pred]; exact vp_in_nI (by omega) (by omega)
    have hd1 : vp_in (nI (d + 1)) 40 := vp_in_nI (by omega) (by omega)
    obtain ⟨l1, l2⟩ := hlow2 d (by omega)
    have tb := pk_tb (j := o + tr_cc a + tr_cc b) hm (by omega)
    have hOa : al_at bo2 0 (O ++ sa) := ((al_app _ _ 0).mp hbo2).1
    refine br_f (by rw [yz_lt he (by omega)]; omega) <| And.intro hin <| br_f (by rw [cs, g.2.2]; decide) <| And.intro hin <| br_f (by rw [cs, g.2.2]; decide) <| And.intro hin <| br_f (by rw [cs, g.2.2]; decide) <|
      nm_r (e' := nI (d + 1)) (pk_m1 _) <| And.intro hd1 <| yl_all (A := O ++ sa) (s := sb) (by rw [cd1, hbb2]) (by rw [List.length_append]; omega) chb hbo2 fun bh3 hbh3 => And.intro hin <| br_f (by rw [cs, g.2.2]; decide) <| And.intro hin <| br_f (by rw [cs, g.2.2]; decide) <| br_c (fun h1 => ?_) (fun h0 => ?_)
    · rw [tb] at h1
      rw [if_pos h1] at K
      have e0 : O ++ sg_ind 0 sb = O ++ sb := by rw [sg_ind_0]
      refine nm_r (nI_1 _) <| br_f (by decide) <| And.intro hd0 <| nm_r (e' := nI O.length) (by rw [cd, l1, hbb1]) <| yo_all (k := 0) rfl (by omega) (by omega) (by rw [e0, List.length_append]; omega) chb hbh3 ((al_app _ _ 0).mp hOa).1 fun bo4 h4 => ?_
      rw [e0] at h4 ⊢
      refine br_f (by decide) <| And.intro hd0 ?_
      rw [cd, l2, hbf1]
      refine br_f (by decide) <| And.intro hd1 <| nm_r (e' := nI (s + tr_sz a)) (by rw [cd1, hbf2]) <| Exists.intro (tr_sz a + 1) ?_
      refine ys_loop (v := 2) (lo := s) (e := s + tr_sz a) (bs0 := bs2) (by omega) (by omega) (Or.inr ⟨by decide, rfl⟩) ?_ (tr_sz a) s (tr_sz a + 1) bs2 rfl (Nat.le_refl _) (Nat.lt_succ_self _) (fun j p q => absurd q (by omega)) (fun j _ => rfl)
      intro bs4 z1 z2
      rw [show o + tr_cc a + tr_cc b + 1 = o + (tr_cc a + tr_cc b + 1) by omega]
      refine K _ _ _ _ _ _ _ rfl h4 (l1.trans hbb1) (l2.trans hbf1) (fun j hj => ⟨(hlow2 j (by omega)).1.trans (hlow1 j hj).1, (hlow2 j (by omega)).2.trans (hlow1 j hj).2⟩) ⟨?_, ?_, ?_⟩ (fun j hj => (pk_un (by omega)).trans ((z2 j (by omega)).trans ((hfr2 j (by omega)).trans (hfr1 j (by omega)))))
      · exact ys_0 a ha s o (fun j p q => (pk_un (by omega)).trans (z1 j p q)) (fun j p q => by rw [ef, if_neg (by omega), if_pos h1, if_pos q])
      · exact ys_cg b hb _ _ (fun j p q => (pk_un (by omega)).trans (z2 j (by omega))) (fun j p q => by rw [ef, if_neg (by omega), if_pos h1, if_neg (by omega)]) hys2
      · rw [pk_us, ef, if_pos rfl, if_pos h1]
    · rw [tb] at h0
      rw [if_neg h0] at K
      refine nm_r (nI_1 _) <| br_t rfl <| br_t rfl <| And.intro hd1 ?_
      rw [cd1, hbf2]
      refine br_t rfl <| Exists.intro (tr_sz b + 1) ?_
      refine ys_loop (v := 1) (lo := s + tr_sz a) (e := s + (tr_sz a + tr_sz b)) (bs0 := bs2) (by omega) (by omega) (Or.inl ⟨rfl, rfl⟩) ?_ (tr_sz b) (s + tr_sz a) (tr_sz b + 1) bs2 (by omega) (Nat.le_refl _) (Nat.lt_succ_self _) (fun j p q => absurd q (by omega)) (fun j _ => rfl)
      intro bs4 z1 z2
      rw [show o + tr_cc a + tr_cc b + 1 = o + (tr_cc a + tr_cc b + 1) by omega]
      refine K _ _ _ _ _ _ _ rfl hOa (l1.trans hbb1) (l2.trans hbf1) (fun j hj => ⟨(hlow2 j (by omega)).1.trans (hlow1 j hj).1, (hlow2 j (by omega)).2.trans (hlow1 j hj).2⟩) ⟨?_, ?_, ?_⟩ (fun j hj => (pk_un (by omega)).trans ((z2 j (by omega)).trans ((hfr2 j (by omega)).trans (hfr1 j (by omega)))))
      · exact ys_cg a ha s o (fun j p q => (pk_un (by omega)).trans ((z2 j (by omega)).trans (hfr2 j (by omega)))) (fun j p q => by rw [ef, if_neg (by omega), if_neg h0, if_pos q]) hys1
      · exact ys_0 b hb _ _ (fun j p q => (pk_un (by omega)).trans (z1 j p (by omega))) (fun j p q => by rw [ef, if_neg (by omega), if_neg h0, if_neg (by omega)])
      · rw [pk_us, ef, if_pos rfl, if_neg h0]
end
end
section
theorem ry_ds_split {bk ba : Nat → Int32} : ∀ (top r : ds_D), ry_ds bk ba (top ++ r) → ry_ds bk ba r
  | [], _, h => h
  | _ :: top, r, h => ry_ds_split top r h.1
section
variable {vn vN vC vH vl vh vp vf vg : Int32} {bk ba bc bo bh bb bf bs : Nat → Int32}
theorem yw_all {post : SY → Prop} {χ : Nat → Nat} {m : Nat} (hm : m < 2 ^ 31) (hχ : ∀ i, 32 ≤ χ i ∧ χ i ≤ 126) {t : tr_T} (ht : tr_ok t) {r : ds_D} (hr : ds_ok r) (gr : ry_ds bk ba r) (g : ry_nd bk ba t (ds_sz r)) (hbc : ∀ i, i < ds_nc r + tr_nc t → bc i = nI (χ i)) (hs : ds_sz r + tr_sz t ≤ 40) (hco : ds_nc r + tr_nc t ≤ 64) (ho : tr_cc t ≤ 6)
    (K : ∀ (vl' vh' : Int32) (bo' bh' bb' bf' bs' : Nat → Int32), vl' = nI (tr_str χ (fun j => m.testBit j) t (ds_nc r) 0).length → al_at bo' 0 (tr_str χ (fun j => m.testBit j) t (ds_nc r) 0) → ys_at bs' (tr_sf (fun j => m.testBit j) t 0) t (ds_sz r) 0 → post (vn, vN, vC, vH, vl', vh', vp, vf, vg, bk, ba, bc, bo', bh', bb', bf', bs')) :
    wpY_write post (vn, vN, vC, vH, vl, vh, vp, vf, vg, bk, ba, bc, bo, bh, bb, bf, bs) (nI (ds_sz r)) (nI (ds_sz r + tr_sz t) - 1) (nI m) := by
  unfold wpY_write
  refine yc_all hr gr (by omega) <| Exists.intro (1 + tr_sz t) ?_
  refine yw_tree (e := ds_sz r + tr_sz t) hm (by omega) hχ t ht (ds_sz r) (ds_nc r) 0 g (fun i _ h => hbc i h) (Nat.le_refl _) hco (by omega) [] 0 1 0 vh bo bh bb bf bs rfl trivial (by simp only [List.length_nil]; omega) (by omega) ?_
  intro vl' vh' bo' bh' bb' bf' bs' h1 h2 _ _ _ h3 _
  exact br_t ((yz_lt (by omega) (by omega)).mpr (Nat.le_refl _)) (K _ _ _ _ _ _ _ h1 h2 h3)
theorem yi_loop {post : Int32 → Prop} {S : List Nat} (hS : S.length < 30000) (hc : ∀ c, c ∈ S → c < 128) (h : al_at bo 0 S) (K : post (nI (sg_ms S).2.1)) :
    ∀ (R P : List Nat) (n h w l : Nat), P ++ R = S → R.length < n → l ≤ w → w ≤ P.length → sg_sc (h, w, l) R = sg_ms S → wY_wide_6 post vn vN vC vH (nI S.length) vh vp vf vg bk ba bc bo bh bb bf bs n (nI w) (nI l) (nI P.length) := by
  intro R
  induction R with
  | nil =>
    intro P n hh w l hPR hn hl hw hp
    obtain ⟨n, rfl⟩ : ∃ k, n = k + 1 := ⟨n - 1, by simp only [List.length_nil] at hn; omega⟩
    rw [List.append_nil] at hPR
    subst hPR
    rw [← hp] at K
    exact br_t (nI_le (Nat.le_refl _) (by omega)) K
  | cons x R ih =>
    intro P n hh w l hPR hn hl hw hp
    simp only [List.length_cons] at hn
    obtain ⟨n, rfl⟩ : ∃ k, n = k + 1 := ⟨n - 1, by omega⟩
    have hlen : S.length = P.length + (R.length + 1) := by rw [← hPR, List.length_append, List.length_cons]
    have c1 : (nI P.length).toNatClampNeg = P.length := nI_clamp (by omega)
    have e : bo P.length = nI x := by
      have := al_get S 0 P.length x h (by rw [← hPR]; simp)
      rw [Nat.zero_add] at this; exact this
    have hx := hc x (by rw [← hPR]; simp)
    have hPR' : (P ++ [x]) ++ R = S := by rw [← hPR, List.append_assoc]; rfl
    have eN : nI P.length + 1 = nI (P ++ [x]).length := by rw [nI_1, List.length_append]; rfl
    have eP : (P ++ [x]).length = P.length + 1 := by rw [List.length_append]; rfl
    rw [sg_sc_cons] at hp
    by_cases h10 : x = 10
    · subst h10
      rw [sg_st_n] at hp
      exact br_f (nI_ge (by omega) (by omega)) <| And.intro (vp_in_nI (by omega) (by omega)) <| br_t (by rw [c1, e]; rfl) <| br_t (nI_pos' (by omega)) <| nm_r eN <| ih (P ++ [10]) n (hh + 1) w 0 hPR' (by omega) (by omega) (by omega) hp
    · rw [sg_st_c h10] at hp
      refine br_f (nI_ge (by omega) (by omega)) <| And.intro (vp_in_nI (by omega) (by omega)) <| br_f (by rw [c1, e]; exact fun q => h10 ((nI_eq (b := 10) (by omega) (by omega)).mp q)) ?_
      rw [nI_1]
      refine pk_le (l + 1) w (fun q => nm_r eN ?_) (fun q => nm_r eN ?_)
      · rw [show max w (l + 1) = w by omega] at hp
        exact ih (P ++ [x]) n hh w (l + 1) hPR' (by omega) (by omega) (by omega) hp
      · rw [show max w (l + 1) = l + 1 by omega] at hp
        exact ih (P ++ [x]) n hh (l + 1) (l + 1) hPR' (by omega) (by omega) (by omega) hp
theorem yi_all {post : Int32 → Prop} {S : List Nat} (hv : vl = nI S.length) (hS : S.length < 30000) (hc : ∀ c, c ∈ S → c < 128) (h : al_at bo 0 S) (K : post (nI (sg_ms S).2.1)) : wpY_wide post (vn, vN, vC, vH, vl, vh, vp, vf, vg, bk, ba, bc, bo, bh, bb, bf, bs) := by
  subst hv
  exact Exists.intro (S.length + 1) (yi_loop hS hc h K S [] (S.length + 1) 1 0 0 (List.nil_append _) (Nat.lt_succ_self _) (Nat.le_refl _) (Nat.le_refl _) rfl)
theorem yj_loop {post : Int32 → Prop} {S : List Nat} (hS : S.length < 30000) (hc : ∀ c, c ∈ S → c < 128) (h : al_at bo 0 S) (K : post (nI (sg_ms S).1)) :
    ∀ (R P : List Nat) (n h w l : Nat), P ++ R = S → R.length < n → sg_sc (h, w, l) R = sg_ms S → wY_tall_4 post vn vN vC vH (nI S.length) vh vp vf vg bk ba bc bo bh bb bf bs n (nI h) (nI P.length) := by
  intro R
  induction R with
  | nil =>
    intro P n hh w l hPR hn hp
    obtain ⟨n, rfl⟩ : ∃ k, n = k + 1 := ⟨n - 1, by simp only [List.length_nil] at hn; omega⟩
    rw [List.append_nil] at hPR
    subst hPR
    rw [← hp] at K
    exact br_t (nI_le (Nat.le_refl _) (by omega)) K
  | cons x R ih =>
    intro P n hh w l hPR hn hp
    simp only [List.length_cons] at hn
    obtain ⟨n, rfl⟩ : ∃ k, n = k + 1 := ⟨n - 1, by omega⟩
    have hlen : S.length = P.length + (R.length + 1) := by rw [← hPR, List.length_append, List.length_cons]
    have c1 : (nI P.length).toNatClampNeg = P.length := nI_clamp (by omega)
    have e : bo P.length = nI x := by
      have := al_get S 0 P.length x h (by rw [← hPR]; simp)
      rw [Nat.zero_add] at this; exact this
    have hx := hc x (by rw [← hPR]; simp)
    have hPR' : (P ++ [x]) ++ R = S := by rw [← hPR, List.append_assoc]; rfl
    have eN : nI P.length + 1 = nI (P ++ [x]).length := by rw [nI_1, List.length_append]; rfl
    rw [sg_sc_cons] at hp
    by_cases h10 : x = 10
    · subst h10
      rw [sg_st_n] at hp
      exact br_f (nI_ge (by omega) (by omega)) <| And.intro (vp_in_nI (by omega) (by omega)) <| br_t (by rw [c1, e]; rfl) <| nm_r (nI_1 hh) <| nm_r eN <| ih (P ++ [10]) n (hh + 1) w 0 hPR' (by omega) hp
    · rw [sg_st_c h10] at hp
      exact br_f (nI_ge (by omega) (by omega)) <| And.intro (vp_in_nI (by omega) (by omega)) <| br_f (by rw [c1, e]; exact fun q => h10 ((nI_eq (b := 10) (by omega) (by omega)).mp q)) <| nm_r (e' := nI hh) (Int32.add_zero _) <| nm_r eN <| ih (P ++ [x]) n hh _ _ hPR' (by omega) hp
theorem yj_all {post : Int32 → Prop} {S : List Nat} (hv : vl = nI S.length) (hS : S.length < 30000) (hc : ∀ c, c ∈ S → c < 128) (h : al_at bo 0 S) (K : post (nI (sg_ms S).1)) : wpY_tall post (vn, vN, vC, vH, vl, vh, vp, vf, vg, bk, ba, bc, bo, bh, bb, bf, bs) := by
  subst hv
  exact Exists.intro (S.length + 1) (yj_loop hS hc h K S [] (S.length + 1) 1 0 0 (List.nil_append _) (Nat.lt_succ_self _) rfl)
/-! the masks -/
def yk_le (page : Nat) (t : tr_T) (k j : Nat) : Prop :=
  bt_ov page (bt_mk t k).2.1 < bt_ov page (bt_mk t j).2.1 ∨ (bt_ov page (bt_mk t k).2.1 = bt_ov page (bt_mk t j).2.1 ∧ ((bt_mk t k).1 < (bt_mk t j).1 ∨ ((bt_mk t k).1 = (bt_mk t j).1 ∧ k ≤ j)))
theorem y89 {post : Int32 → SY → Prop} {χ : Nat → Nat} {page : Nat} (hpg : page ≤ 255) (hχ : ∀ i, 32 ≤ χ i ∧ χ i ≤ 126) {t : tr_T} (ht : tr_ok t) {r : ds_D} (hr : ds_ok r) (gr : ry_ds bk ba r) (g : ry_nd bk ba t (ds_sz r)) (hbc : ∀ i, i < ds_nc r + tr_nc t → bc i = nI (χ i)) (hs : ds_sz r + tr_sz t ≤ 40) (hco : ds_nc r + tr_nc t ≤ 64) (ho : tr_cc t ≤ 6)
    (K : ∀ (k : Nat) (vl' vh' : Int32) (bo' bh' bb' bf' bs' : Nat → Int32), k < 2 ^ tr_cc t → (∀ j, j < 2 ^ tr_cc t → yk_le page t k j) → vl' = nI (tr_str χ (fun j => k.testBit j) t (ds_nc r) 0).length → al_at bo' 0 (tr_str χ (fun j => k.testBit j) t (ds_nc r) 0) → ys_at bs' (tr_sf (fun j => k.testBit j) t 0) t (ds_sz r) 0 →
      post (if (bt_mk t k).2.1 ≤ page then 1 else 2) (vn, vN, vC, vH, vl', vh', 1, nI (ds_sz r), nI (ds_sz r + tr_sz t) - 1, bk, ba, bc, bo', bh', bb', bf', bs')) :
    ∀ (d i n : Nat) (x6 x7 x8 : Int32) (vl vh : Int32) (bo bh bb bf bs : Nat → Int32), i + d = 2 ^ tr_cc t → d < n →
      (i ≠ 0 → ∃ b, b < i ∧ x6 = nI b ∧ x7 = nI (bt_ov page (bt_mk t b).2.1) ∧ x8 = nI (bt_mk t b).1 ∧ ∀ j, j < i → yk_le page t b j) →
      wY_layout_89 post (nI page) (nI (ds_sz r + tr_sz t) - 1) (nI (ds_sz r)) (nI (2 ^ tr_cc t)) n x6 x7 x8 (nI i) vn vN vC vH vl vh vp vf vg bk ba bc bo bh bb bf bs := by
  have hχ10 : ∀ i, χ i ≠ 10 := fun i => by have := hχ i; omega
  have h64 : 2 ^ tr_cc t ≤ 64 := by
    have : 2 ^ tr_cc t ≤ 2 ^ 6 := Nat.pow_le_pow_right (by omega) ho
    omega
  have hpos : 0 < 2 ^ tr_cc t := Nat.two_pow_pos _
  have ms : ∀ k : Nat, sg_ms (tr_str χ (fun j => k.testBit j) t (ds_nc r) 0) = ((bt_mk t k).1, (bt_mk t k).2.1, (bt_mk t k).2.2.1) := fun k => tr_str_ms χ _ hχ10 t ht _ _
  have bd : ∀ k : Nat, 1 ≤ (bt_mk t k).1 ∧ (bt_mk t k).1 ≤ 40 ∧ (bt_mk t k).2.1 ≤ 1000 := fun k => by
    have := tr_ms_bd (fun j => k.testBit j) t ht 0
    unfold bt_mk; omega
  have ln : ∀ k : Nat, (tr_str χ (fun j => k.testBit j) t (ds_nc r) 0).length < 30000 := fun k => by
    have := tr_str_len χ (fun j => k.testBit j) hχ10 t ht (ds_nc r) 0 (by omega) (by omega); omega
  have ch : ∀ (k x : Nat), x ∈ tr_str χ (fun j => k.testBit j) t (ds_nc r) 0 → x < 128 := fun k x hx => by
    have := tr_str_ch χ (fun j => k.testBit j) hχ t ht _ _ x hx; omega
  intro d
  induction d with
  | zero =>
    intro i n x6 x7 x8 vl vh bo bh bb bf bs hi hn hb
    obtain ⟨n, rfl⟩ : ∃ k, n = k + 1 := ⟨n - 1, by omega⟩
    obtain ⟨b, hbi, rfl, _, _, hmin⟩ := hb (by omega)
    refine br_t (nI_le (by omega) (by omega)) <| yw_all (m := b) (by omega) hχ ht hr gr g hbc hs hco ho fun vl' vh' bo' bh' bb' bf' bs' h1 h2 h3 => yi_all h1 (ln b) (ch b) h2 ?_
    have KK := K b vl' vh' bo' bh' bb' bf' bs' (by omega) (fun j hj => hmin j (by omega)) h1 h2 h3
    rw [ms b]
    have := bd b
    refine pk_lt page (bt_mk t b).2.1 (fun c => ?_) (fun c => ?_)
    · rw [if_neg (by omega)] at KK; exact KK
    · rw [if_pos (by omega)] at KK; exact KK
  | succ d ih =>
    intro i n x6 x7 x8 vl vh bo bh bb bf bs hi hn hb
    obtain ⟨n, rfl⟩ : ∃ k, n = k + 1 := ⟨n - 1, by omega⟩
    refine br_f (nI_ge (by omega) (by omega)) <| yw_all (m := i) (by omega) hχ ht hr gr g hbc hs hco ho fun vl' vh' bo' bh' bb' bf' bs' h1 h2 h3 => ?_
    have bi := bd i
    have eov : bt_ov page (bt_mk t i).2.1 = (bt_mk t i).2.1 - page := rfl
    -- taking the new mask, keeping the old best
    have T : (i ≠ 0 → ∀ b, b < i → (∀ j, j < i → yk_le page t b j) → ∀ j, j < i → yk_le page t i j) → wY_layout_157 post (wY_layout_89 post (nI page) (nI (ds_sz r + tr_sz t) - 1) (nI (ds_sz r)) (nI (2 ^ tr_cc t)) n) (nI page) (nI (ds_sz r + tr_sz t) - 1) (nI (ds_sz r)) (nI (2 ^ tr_cc t)) (nI i) (nI (bt_ov page (bt_mk t i).2.1)) (nI (bt_mk t i).1) vn vN vC vH vl' vh' vp vf vg bk ba bc bo' bh' bb' bf' bs' := by
      intro q
      refine nm_r (nI_1 i) <| ih (i + 1) n _ _ _ _ _ _ _ _ _ _ (by omega) (by omega) (fun _ => ⟨i, by omega, rfl, rfl, rfl, fun j hj => ?_⟩)
      by_cases e : j = i
      · subst e; unfold yk_le; omega
      · obtain ⟨b, hbi, _, _, _, hmin⟩ := hb (by omega)
        exact q (by omega) b hbi hmin j (by omega)
    have A : wY_layout_123 post (wY_layout_89 post (nI page) (nI (ds_sz r + tr_sz t) - 1) (nI (ds_sz r)) (nI (2 ^ tr_cc t)) n) (nI page) (nI (ds_sz r + tr_sz t) - 1) (nI (ds_sz r)) (nI (2 ^ tr_cc t)) x6 x7 x8 (nI i) (nI (bt_ov page (bt_mk t i).2.1)) vn vN vC vH vl' vh' vp vf vg bk ba bc bo' bh' bb' bf' bs' := by
      refine yj_all h1 (ln i) (ch i) h2 ?_
      rw [ms i]
      dsimp only
      by_cases i0 : i = 0
      · exact br_t (by rw [i0]; rfl) (T (fun q => absurd i0 q))
      · obtain ⟨b, hbi, rfl, rfl, rfl, hmin⟩ := hb i0
        have bb := bd b
        have N : yk_le page t b i → ∀ y, y = nI i + 1 → wY_layout_89 post (nI page) (nI (ds_sz r + tr_sz t) - 1) (nI (ds_sz r)) (nI (2 ^ tr_cc t)) n (nI b) (nI (bt_ov page (bt_mk t b).2.1)) (nI (bt_mk t b).1) y vn vN vC vH vl' vh' vp vf vg bk ba bc bo' bh' bb' bf' bs' := by
          intro q
          refine nm_r (nI_1 i) <| ih (i + 1) n _ _ _ _ _ _ _ _ _ _ (by omega) (by omega) (fun _ => ⟨b, by omega, rfl, rfl, rfl, fun j hj => ?_⟩)
          by_cases e : j = i
          · subst e; exact q
          · exact hmin j (by omega)
        have hob : bt_ov page (bt_mk t b).2.1 ≤ 1000 := by unfold bt_ov; omega
        have hoi : bt_ov page (bt_mk t i).2.1 ≤ 1000 := by unfold bt_ov; omega
        refine br_f (nI_ne0 (by omega) (by omega)) <| pk_lt _ _ (fun c => T ?_) (fun c => pk_eq _ _ (fun c2 => pk_le _ _ (fun c3 => N ?_) (fun c3 => T ?_)) (fun c2 => N ?_))
        · intro _ b' _ hm' j hj
          have := hm' b hbi; have := hmin b' (by omega)
          have := hmin j hj
          unfold yk_le at *; omega
        · unfold yk_le; omega
        · intro _ b' _ hm' j hj
          have := hmin j hj
          unfold yk_le at *; omega
        · unfold yk_le; omega
    refine yi_all h1 (ln i) (ch i) h2 ?_
    rw [ms i]
    dsimp only
    refine pk_le (bt_mk t i).2.1 page (fun c => ?_) (fun c => yi_all h1 (ln i) (ch i) h2 ?_)
    · rw [show bt_ov page (bt_mk t i).2.1 = 0 by unfold bt_ov; omega] at A
      exact A
    · rw [ms i]
      dsimp only
      rw [pk_sub (by omega)]
      exact A
theorem y39 {post : Int32 → SY → Prop} {N C H page : Nat} {χ : Nat → Nat} (hpg : page ≤ 255) {t : tr_T} {L : List mt_M} {r : ds_D} {T : Nat} (hT : T ≤ 40)
    (K : ∀ (k : Nat) (vl' vh' : Int32) (bo' bh' bb' bf' bs' : Nat → Int32), k < 2 ^ tr_cc t → (∀ j, j < 2 ^ tr_cc t → yk_le page t k j) → vl' = nI (tr_str χ (fun j => k.testBit j) t (ds_nc r) 0).length → al_at bo' 0 (tr_str χ (fun j => k.testBit j) t (ds_nc r) 0) → ys_at bs' (tr_sf (fun j => k.testBit j) t 0) t (ds_sz r) 0 →
      post (if (bt_mk t k).2.1 ≤ page then 1 else 2) (vn, vN, vC, vH, vl', vh', 1, nI (ds_sz r), nI (ds_sz r + tr_sz t) - 1, bk, ba, bc, bo', bh', bb', bf', bs')) :
    ∀ (top : ds_D) (i n : Nat), ds_in N C H χ (top ++ (t, L) :: r) → ry_ds bk ba (top ++ (t, L) :: r) → (∀ i, i < ds_nc (top ++ (t, L) :: r) → bc i = nI (χ i)) → i + top.length = T → top.length < n →
      wY_layout_39 post (nI T) (nI page) vn vN vC vH vl vh vp vf vg bk ba bc bo bh bb bf bs n (nI (ds_sz (top ++ (t, L) :: r)) - 1) (nI i) := by
  intro top
  induction top with
  | nil =>
    intro i n hp g hbc hi hn
    obtain ⟨n, rfl⟩ : ∃ k, n = k + 1 := ⟨n - 1, by simp only [List.length_nil] at hn; omega⟩
    obtain ⟨hN8, hN40, hC64, hH, q1, q2, q3, hok, hχ⟩ := hp
    simp only [List.nil_append, ds_sz, ds_nc, ds_cc, List.length_nil] at q1 q2 q3 hbc hi ⊢
    have ht : tr_ok t := hok.2.1
    have gt : ry_nd bk ba t (ds_sz r) := g.2
    refine br_t (nI_le (by omega) (by omega)) <| yf_all ht gt (by omega) <| yh_one ht gt (by omega) <| nm_r (pk_bit (by omega)) <| Exists.intro (2 ^ tr_cc t + 1) ?_
    exact y89 hpg hχ ht hok.1 g.1 gt hbc (by omega) (by omega) (by omega) K (2 ^ tr_cc t) 0 (2 ^ tr_cc t + 1) 0 0 0 vl vh bo bh bb bf bs (Nat.zero_add _) (Nat.lt_succ_self _) (fun q => absurd rfl q)
  | cons p top ih =>
    intro i n hp g hbc hi hn
    simp only [List.length_cons] at hi hn
    obtain ⟨n, rfl⟩ : ∃ k, n = k + 1 := ⟨n - 1, by omega⟩
    obtain ⟨hN8, hN40, hC64, hH, q1, q2, q3, hok, hχ⟩ := hp
    simp only [List.cons_append, ds_sz, ds_nc, ds_cc] at q1 q2 q3 hbc ⊢
    refine br_f (nI_ge (by omega) (by omega)) <| yf_all (t := p.1) hok.2.1 g.2 (by omega) <| nm_e <| nm_r (nI_1 i) ?_
    exact ih (i + 1) n ⟨hN8, hN40, hC64, hH, by omega, by omega, by omega, hok.1, hχ⟩ g.1 (fun j hj => hbc j (by omega)) (by omega) (by omega)
theorem yp_layout {post : Int32 → SY → Prop} {N C H page : Nat} {χ : Nat → Nat} (hpg : page ≤ 255) {top r : ds_D} {t : tr_T} {L : List mt_M} (hp : ds_in N C H χ (top ++ (t, L) :: r)) (hy : ry_R N C H χ (top ++ (t, L) :: r) vn vN vC vH bk ba bc)
    (K : ∀ (k : Nat) (vl' vh' : Int32) (bo' bh' bb' bf' bs' : Nat → Int32), k < 2 ^ tr_cc t → (∀ j, j < 2 ^ tr_cc t → yk_le page t k j) → vl' = nI (tr_str χ (fun j => k.testBit j) t (ds_nc r) 0).length → al_at bo' 0 (tr_str χ (fun j => k.testBit j) t (ds_nc r) 0) → ys_at bs' (tr_sf (fun j => k.testBit j) t 0) t (ds_sz r) 0 →
      post (if (bt_mk t k).2.1 ≤ page then 1 else 2) (vn, vN, vC, vH, vl', vh', 1, nI (ds_sz r), nI (ds_sz r + tr_sz t) - 1, bk, ba, bc, bo', bh', bb', bf', bs')) : wpY_layout post (vn, vN, vC, vH, vl, vh, vp, vf, vg, bk, ba, bc, bo, bh, bb, bf, bs) (nI top.length) (nI page) := by
  obtain ⟨rfl, rfl, rfl, rfl, g, hbc⟩ := hy
  have hp' := hp
  obtain ⟨hN8, hN40, hC64, hH, q1, q2, q3, hok, hχ⟩ := hp'
  have hl := ds_len_sz (top ++ (t, L) :: r)
  have hl' : (top ++ (t, L) :: r).length = top.length + (r.length + 1) := by rw [List.length_append, List.length_cons]
  refine br_f (nI_pos (by omega)) <| br_f (nI_pos (by omega)) <| br_t (nI_le (b := 255) hpg (by omega)) <| yd_all hok g (by omega) <| br_t (nI_lt (by omega) (by omega)) <| nm_e <| Exists.intro (top.length + 1) ?_
  exact y39 hpg (by omega) K top 0 (top.length + 1) hp g hbc (Nat.zero_add _) (Nat.lt_succ_self _)
end
end
section
theorem tk_s {S : List Nat} {j c : Nat} (h : S[j]? = some c) : S.take (j + 1) = S.take j ++ [c] := by
  obtain ⟨hj, e⟩ := List.getElem?_eq_some_iff.mp h
  rw [List.take_add_one, h]; rfl
theorem ys_sh {bs : Nat → Int32} {F F' : Nat → Nat} {e : Nat} : ∀ t, tr_ok t → ∀ s o, (∀ j, o ≤ j → j < o + tr_cc t → F' (e + j) = F j) → ys_at bs F t s o → ys_at bs F' t s (e + o) := by
  refine tr_ind ?_ ?_ ?_ ?_ ?_ ?_
  · intro n s o _ _; trivial
  · intro a _ ih s o h g; exact ih s o h g
  · intro a k _ _ ih s o h g; exact ih s o h g
  · intro a b _ _ iha ihb s o h g
    simp only [tr_cc] at h
    refine ⟨iha s o (fun j p q => h j p (by omega)) g.1, ?_⟩
    have := ihb _ _ (fun j p q => h j (by omega) (by omega)) g.2
    rw [← Nat.add_assoc] at this; exact this
  · intro a b _ _ iha ihb s o h g
    simp only [tr_cc] at h
    refine ⟨iha s o (fun j p q => h j p (by omega)) g.1, ?_⟩
    have := ihb _ _ (fun j p q => h j (by omega) (by omega)) g.2
    rw [← Nat.add_assoc] at this; exact this
  · intro a b _ _ iha ihb s o h g
    simp only [tr_cc] at h
    refine ⟨iha s o (fun j p q => h j p (by omega)) g.1, ?_, ?_⟩
    · have := ihb _ _ (fun j p q => h j (by omega) (by omega)) g.2.1
      rw [← Nat.add_assoc] at this; exact this
    · rw [g.2.2, show e + o + tr_cc a + tr_cc b = e + (o + tr_cc a + tr_cc b) by omega, h _ (by omega) (by omega)]
section
variable {vn vN vC vH vl vh vp vf vg : Int32} {bk ba bc bo bh bb bf bs : Nat → Int32}
/-! lines -/
theorem yq_any {post : Int32 → Prop} {row : Int32} {l : Nat} (hl : l ≤ 30000) (K : ∀ r, post r) : ∀ (d j n : Nat) (x : Int32), j + d = l → d < n → wY_lineStart_10 post row vn vN vC vH (nI l) vh vp vf vg bk ba bc bo bh bb bf bs n x (nI j) := by
  intro d
  induction d with
  | zero =>
    intro j n x hj hn
    obtain ⟨n, rfl⟩ : ∃ k, n = k + 1 := ⟨n - 1, by omega⟩
    exact br_t (nI_le (by omega) (by omega)) (K _)
  | succ d ih =>
    intro j n x hj hn
    obtain ⟨n, rfl⟩ : ∃ k, n = k + 1 := ⟨n - 1, by omega⟩
    exact br_f (nI_ge (by omega) (by omega)) <| And.intro (vp_in_nI (by omega) (by omega)) <| br_c (fun _ => nm_e <| br_c (fun _ => K _) (fun _ => nm_r (nI_1 j) <| ih (j + 1) n _ (by omega) (by omega))) (fun _ => nm_r (nI_1 j) <| ih (j + 1) n _ (by omega) (by omega))
theorem yq_anyA {post : Int32 → Prop} {row : Int32} {l : Nat} (hv : vl = nI l) (hl : l ≤ 30000) (K : ∀ r, post r) : wpY_lineStart post (vn, vN, vC, vH, vl, vh, vp, vf, vg, bk, ba, bc, bo, bh, bb, bf, bs) row := by
  subst hv
  exact br_c (fun _ => K _) (fun _ => Exists.intro (l + 1) (yq_any hl K l 0 (l + 1) 0 (Nat.zero_add _) (Nat.lt_succ_self _)))
theorem yq_loop {post : Int32 → Prop} {row : Int32} {S : List Nat} (hS : S.length < 30000) (hH : (sg_ms S).1 ≤ 40) (hc : ∀ c, c ∈ S → c < 127) (h : al_at bo 0 S)
    (K0 : ∀ j, j ≤ S.length → row = nI ((sg_ms (S.take j)).1 - 1) → (sg_ms (S.take j)).2.2 = 0 → post (nI j)) (K1 : (∀ ρ, ρ < (sg_ms S).1 → row ≠ nI ρ) → post (-1)) :
    ∀ (d j n : Nat), j + d = S.length → d < n → (∀ ρ, ρ < (sg_ms (S.take j)).1 → row ≠ nI ρ) → wY_lineStart_10 post row vn vN vC vH (nI S.length) vh vp vf vg bk ba bc bo bh bb bf bs n (nI ((sg_ms (S.take j)).1 - 1)) (nI j) := by
  intro d
  induction d with
  | zero =>
    intro j n hj hn hr
    obtain ⟨n, rfl⟩ : ∃ k, n = k + 1 := ⟨n - 1, by omega⟩
    rw [List.take_of_length_le (by omega)] at hr
    exact br_t (nI_le (by omega) (by omega)) (K1 hr)
  | succ d ih =>
    intro j n hj hn hr
    obtain ⟨n, rfl⟩ : ∃ k, n = k + 1 := ⟨n - 1, by omega⟩
    obtain ⟨x, hx⟩ : ∃ x, S[j]? = some x := ⟨S[j], List.getElem?_eq_getElem (by omega)⟩
    have c1 : (nI j).toNatClampNeg = j := nI_clamp (by omega)
    have e : bo j = nI x := by
      have := al_get S 0 j x h hx
      rw [Nat.zero_add] at this; exact this
    have hx127 := hc x (List.mem_of_getElem? hx)
    have ts := tk_s hx
    have g := cu_ge (S.take j)
    refine br_f (nI_ge (by omega) (by omega)) <| And.intro (vp_in_nI (by omega) (by omega)) ?_
    by_cases h10 : x = 10
    · subst h10
      have m := sg_ms_n (S.take j)
      rw [← ts] at m
      refine br_t (by rw [c1, e]; rfl) <| nm_r (e' := nI ((sg_ms (S.take (j + 1))).1 - 1)) (by rw [nI_1]; exact congrArg nI (by omega)) <| br_c (fun c => ?_) (fun c => nm_r (nI_1 j) ?_)
      · rw [nI_1]; exact K0 (j + 1) (by omega) c.symm m.2
      · refine ih (j + 1) n (by omega) (by omega) (fun ρ hρ => ?_)
        by_cases q : ρ < (sg_ms (S.take j)).1
        · exact hr ρ q
        · rw [show ρ = (sg_ms (S.take (j + 1))).1 - 1 by omega]; exact fun z => c z.symm
    · have m := sg_ms_ne (S.take j) [x] (by intro d hd; rw [List.mem_singleton.mp hd]; exact h10)
      rw [← ts] at m
      refine br_f (by rw [c1, e]; exact fun q => h10 ((nI_eq (b := 10) (by omega) (by omega)).mp q)) <| nm_r (nI_1 j) ?_
      have := ih (j + 1) n (by omega) (by omega) (by rw [m.1]; exact hr)
      rw [m.1] at this
      exact this
theorem yq_all {post : Int32 → Prop} {row : Int32} {S : List Nat} (hv : vl = nI S.length) (hS : S.length < 30000) (hH : (sg_ms S).1 ≤ 40) (hc : ∀ c, c ∈ S → c < 127) (h : al_at bo 0 S)
    (K0 : ∀ j, j ≤ S.length → row = nI ((sg_ms (S.take j)).1 - 1) → (sg_ms (S.take j)).2.2 = 0 → post (nI j)) (K1 : (∀ ρ, ρ < (sg_ms S).1 → row ≠ nI ρ) → post (-1)) : wpY_lineStart post (vn, vN, vC, vH, vl, vh, vp, vf, vg, bk, ba, bc, bo, bh, bb, bf, bs) row := by
  subst hv
  refine br_c (fun c => K0 0 (Nat.zero_le _) (by rw [c]; rfl) rfl) (fun c => Exists.intro (S.length + 1) ?_)
  refine yq_loop hS hH hc h K0 K1 S.length 0 (S.length + 1) (Nat.zero_add _) (Nat.lt_succ_self _) (fun ρ hρ => ?_)
  have : ρ = 0 := by have e : (sg_ms (S.take 0)).1 = 1 := rfl; omega
  subst this
  exact c
theorem yr_loop {post : Int32 → Prop} {S : List Nat} {j0 : Nat} (hS : S.length < 30000) (hc : ∀ c, c ∈ S → c < 127) (h : al_at bo 0 S)
    (K : ∀ k, j0 + k ≤ S.length → (sg_ms (S.take (j0 + k))).1 = (sg_ms (S.take j0)).1 → (sg_ms (S.take (j0 + k))).2.2 = k → (j0 + k = S.length ∨ S[j0 + k]? = some 10) → post (nI k)) :
    ∀ (d k n : Nat), j0 + k + d = S.length → d < n → (sg_ms (S.take (j0 + k))).1 = (sg_ms (S.take j0)).1 → (sg_ms (S.take (j0 + k))).2.2 = k → wY_lineLength_24 post vn vN vC vH (nI S.length) vh vp vf vg bk ba bc bo bh bb bf bs n (nI k) (nI (j0 + k)) := by
  intro d
  induction d with
  | zero =>
    intro k n hk hn h1 h2
    obtain ⟨n, rfl⟩ : ∃ k, n = k + 1 := ⟨n - 1, by omega⟩
    exact br_t (nI_le (by omega) (by omega)) (K k (by omega) h1 h2 (Or.inl (by omega)))
  | succ d ih =>
    intro k n hk hn h1 h2
    obtain ⟨n, rfl⟩ : ∃ k, n = k + 1 := ⟨n - 1, by omega⟩
    obtain ⟨x, hx⟩ : ∃ x, S[j0 + k]? = some x := ⟨S[j0 + k], List.getElem?_eq_getElem (by omega)⟩
    have c1 : (nI (j0 + k)).toNatClampNeg = j0 + k := nI_clamp (by omega)
    have e : bo (j0 + k) = nI x := by
      have := al_get S 0 (j0 + k) x h hx
      rw [Nat.zero_add] at this; exact this
    have hx127 := hc x (List.mem_of_getElem? hx)
    have ts := tk_s hx
    refine br_f (nI_ge (by omega) (by omega)) <| And.intro (vp_in_nI (by omega) (by omega)) ?_
    by_cases h10 : x = 10
    · subst h10
      exact br_t (by rw [c1, e]; rfl) (K k (by omega) h1 h2 (Or.inr hx))
    · have m := sg_ms_ne (S.take (j0 + k)) [x] (by intro d hd; rw [List.mem_singleton.mp hd]; exact h10)
      rw [← ts, List.length_singleton] at m
      exact br_f (by rw [c1, e]; exact fun q => h10 ((nI_eq (b := 10) (by omega) (by omega)).mp q)) <| nm_r (nI_1 k) <| nm_r (nI_1 _) <| ih (k + 1) n (by omega) (by omega) (m.1.trans h1) (by rw [← Nat.add_assoc]; omega)
/-- the length of a line of the page S -/
theorem yr_all {post : Int32 → Prop} {row : Int32} {S : List Nat} (hvp : vp = 1) (hv : vl = nI S.length) (hS : S.length < 30000) (hH : (sg_ms S).1 ≤ 40) (hc : ∀ c, c ∈ S → c < 127) (h : al_at bo 0 S)
    (K0 : ∀ j0 k, j0 + k ≤ S.length → row = nI ((sg_ms (S.take j0)).1 - 1) → (sg_ms (S.take j0)).2.2 = 0 → (sg_ms (S.take (j0 + k))).1 = (sg_ms (S.take j0)).1 → (sg_ms (S.take (j0 + k))).2.2 = k → (j0 + k = S.length ∨ S[j0 + k]? = some 10) → post (nI k))
    (K1 : (∀ ρ, ρ < (sg_ms S).1 → row ≠ nI ρ) → post (-1)) : wpY_lineLength post (vn, vN, vC, vH, vl, vh, vp, vf, vg, bk, ba, bc, bo, bh, bb, bf, bs) row := by
  subst hvp
  unfold wpY_lineLength
  refine yq_all hv hS hH hc h (fun j0 h1 h2 h3 => br_f (by decide) <| br_t (nI_pos' (by omega)) ?_) (fun h1 => br_f (by decide) <| br_f (by decide) (K1 h1))
  subst hv
  exact Exists.intro (S.length - j0 + 1) (yr_loop hS hc h (fun k a b c d => K0 j0 k a h2 h3 b c d) (S.length - j0) 0 (S.length - j0 + 1) (by omega) (Nat.lt_succ_self _) rfl h3)
/-! the states -/
theorem yt_s0 {post : Int32 → Prop} {p0 : Int32} {e s n : Nat} {x : Int32} {kd : Nat} (he : e ≤ 40) (hs : s < e) (hk : bk s = nI kd) (hkd : kd < 5) (K : wY_taken_13 post p0 (nI e) vN vC vH vl vh vp vf vg bk ba bc bo bh bb bf bs n x (nI (s + 1))) : wY_taken_13 post p0 (nI e) vN vC vH vl vh vp vf vg bk ba bc bo bh bb bf bs (n + 1) x (nI s) := by
  have c : (nI s).toNatClampNeg = s := nI_clamp (by omega)
  have hne : ¬ nI kd = 5 := fun q => by have := (nI_eq (b := 5) (by omega) (by omega)).mp q; omega
  exact br_f (nI_ge (by omega) (by omega)) <| And.intro (vp_in_nI (by omega) (by omega)) <| br_f (by rw [c, hk]; exact hne) <| nm_r (nI_1 s) K
theorem yt_tree {post : Int32 → Prop} {p0 : Int32} {e : Nat} (he : e ≤ 40) {g : Nat → Int32} {F : Nat → Nat} : ∀ t, tr_ok t → ∀ s o n, ry_nd bk ba t s → ys_at g F t s o → s + tr_sz t ≤ e → o + tr_cc t ≤ 6 →
    (∀ j N, s ≤ j → j < s + tr_sz t → o ≤ N → N < o + tr_cc t → g j = nI (F N) → nI N = p0 → ((nI j < vf → post (-1)) ∧ (¬ nI j < vf → ((vg < nI j → post (-1)) ∧ (¬ vg < nI j → (vp_in (nI j) 40 ∧ post (bs (nI j).toNatClampNeg))))))) →
    ((∀ N, o ≤ N → N < o + tr_cc t → ¬ nI N = p0) → wY_taken_13 post p0 (nI e) vN vC vH vl vh vp vf vg bk ba bc bo bh bb bf bs n (nI (o + tr_cc t)) (nI (s + tr_sz t))) → wY_taken_13 post p0 (nI e) vN vC vH vl vh vp vf vg bk ba bc bo bh bb bf bs (n + tr_sz t) (nI o) (nI s) := by
  refine tr_ind ?_ ?_ ?_ ?_ ?_ ?_
  · intro k s o n gn _ hs ho HD K
    simp only [tr_sz] at hs
    exact yt_s0 he (by omega) gn.1 (by omega) (K (fun N h1 h2 => absurd h2 (by simp only [tr_cc]; omega)))
  · intro a _ ih s o n gn gy hs ho HD K
    simp only [tr_sz, tr_cc] at hs ho HD K ⊢
    rw [show n + (tr_sz a + 1) = (n + 1) + tr_sz a by omega]
    exact ih s o (n + 1) gn.1 gy (by omega) ho (fun j N h1 h2 => HD j N h1 (by omega)) (fun q => yt_s0 he (by omega) gn.2 (by omega) (K q))
  · intro a k _ _ ih s o n gn gy hs ho HD K
    simp only [tr_sz, tr_cc] at hs ho HD K ⊢
    rw [show n + (tr_sz a + 1) = (n + 1) + tr_sz a by omega]
    exact ih s o (n + 1) gn.1 gy (by omega) ho (fun j N h1 h2 => HD j N h1 (by omega)) (fun q => yt_s0 he (by omega) gn.2.1 (by omega) (K q))
  · intro a b _ _ iha ihb s o n gn gy hs ho HD K
    simp only [tr_sz, tr_cc] at hs ho HD K ⊢
    rw [show n + (tr_sz a + tr_sz b + 1) = ((n + 1) + tr_sz b) + tr_sz a by omega]
    refine iha s o _ gn.1 gy.1 (by omega) (by omega) (fun j N h1 h2 h3 h4 => HD j N h1 (by omega) h3 (by omega)) (fun q1 => ihb _ _ _ gn.2.1 gy.2 (by omega) (by omega) (fun j N h1 h2 h3 h4 => HD j N (by omega) (by omega) (by omega) (by omega)) (fun q2 => ?_))
    rw [show o + tr_cc a + tr_cc b = o + (tr_cc a + tr_cc b) by omega, show s + tr_sz a + tr_sz b = s + (tr_sz a + tr_sz b) by omega]
    refine yt_s0 he (by omega) gn.2.2 (by omega) (K (fun N h1 h2 => ?_))
    by_cases z : N < o + tr_cc a
    · exact q1 N h1 z
    · exact q2 N (by omega) (by omega)
  · intro a b _ _ iha ihb s o n gn gy hs ho HD K
    simp only [tr_sz, tr_cc] at hs ho HD K ⊢
    rw [show n + (tr_sz a + tr_sz b + 1) = ((n + 1) + tr_sz b) + tr_sz a by omega]
    refine iha s o _ gn.1 gy.1 (by omega) (by omega) (fun j N h1 h2 h3 h4 => HD j N h1 (by omega) h3 (by omega)) (fun q1 => ihb _ _ _ gn.2.1 gy.2 (by omega) (by omega) (fun j N h1 h2 h3 h4 => HD j N (by omega) (by omega) (by omega) (by omega)) (fun q2 => ?_))
    rw [show o + tr_cc a + tr_cc b = o + (tr_cc a + tr_cc b) by omega, show s + tr_sz a + tr_sz b = s + (tr_sz a + tr_sz b) by omega]
    refine yt_s0 he (by omega) gn.2.2 (by omega) (K (fun N h1 h2 => ?_))
    by_cases z : N < o + tr_cc a
    · exact q1 N h1 z
    · exact q2 N (by omega) (by omega)
  · intro a b _ _ iha ihb s o n gn gy hs ho HD K
    simp only [tr_sz, tr_cc] at hs ho HD K ⊢
    rw [show n + (tr_sz a + tr_sz b + 1) = ((n + 1) + tr_sz b) + tr_sz a by omega]
    refine iha s o _ gn.1 gy.1 (by omega) (by omega) (fun j N h1 h2 h3 h4 => HD j N h1 (by omega) h3 (by omega)) (fun q1 => ihb _ _ _ gn.2.1 gy.2.1 (by omega) (by omega) (fun j N h1 h2 h3 h4 => HD j N (by omega) (by omega) (by omega) (by omega)) (fun q2 => ?_))
    rw [show s + tr_sz a + tr_sz b = s + (tr_sz a + tr_sz b) by omega]
    have c : (nI (s + (tr_sz a + tr_sz b))).toNatClampNeg = s + (tr_sz a + tr_sz b) := nI_clamp (by omega)
    refine br_f (nI_ge (by omega) (by omega)) <| And.intro (vp_in_nI (by omega) (by omega)) <| br_t (by rw [c, gn.2.2]; rfl) <| br_c (fun c1 => ?_) (fun c1 => nm_r (nI_1 _) <| nm_r (nI_1 _) ?_)
    · exact HD _ _ (by omega) (by omega) (by omega) (by omega) gy.2.2 c1
    · rw [show o + tr_cc a + tr_cc b + 1 = o + (tr_cc a + tr_cc b + 1) by omega]
      refine K (fun N h1 h2 => ?_)
      by_cases z : N < o + tr_cc a
      · exact q1 N h1 z
      · by_cases z2 : N = o + tr_cc a + tr_cc b
        · rw [z2]; exact c1
        · exact q2 N (by omega) (by omega)
theorem yt_ds {post : Int32 → Prop} {p0 : Int32} {e : Nat} (he : e ≤ 40) : ∀ (ds base : ds_D), ds_ok (ds ++ base) → ∀ n, ry_ds bk ba (ds ++ base) → ds_sz (ds ++ base) ≤ e → ds_cc (ds ++ base) ≤ 6 →
    (∀ j N, ds_sz base ≤ j → j < ds_sz (ds ++ base) → ds_cc base ≤ N → N < ds_cc (ds ++ base) → nI N = p0 → ((nI j < vf → post (-1)) ∧ (¬ nI j < vf → ((vg < nI j → post (-1)) ∧ (¬ vg < nI j → (vp_in (nI j) 40 ∧ post (bs (nI j).toNatClampNeg))))))) →
    ((∀ N, ds_cc base ≤ N → N < ds_cc (ds ++ base) → ¬ nI N = p0) → wY_taken_13 post p0 (nI e) vN vC vH vl vh vp vf vg bk ba bc bo bh bb bf bs n (nI (ds_cc (ds ++ base))) (nI (ds_sz (ds ++ base)))) → ∃ n', wY_taken_13 post p0 (nI e) vN vC vH vl vh vp vf vg bk ba bc bo bh bb bf bs n' (nI (ds_cc base)) (nI (ds_sz base))
  | [], base, hk, n, g, hs, hc, HD, K => ⟨n, K (fun N h1 h2 => absurd h2 (by simp only [List.nil_append]; omega))⟩
  | p :: ds, base, hk, n, g, hs, hc, HD, K => by
    simp only [List.cons_append, ds_sz, ds_cc] at hs hc HD K
    have hle := ds_le_split ds base
    refine yt_ds he ds base hk.1 (n + tr_sz p.1) g.1 (by omega) (by omega) (fun j N h1 h2 h3 h4 => HD j N h1 (by omega) h3 (by omega)) (fun q1 => ?_)
    refine yt_tree he (g := fun _ => nI 0) (F := fun _ => 0) p.1 hk.2.1 _ _ n g.2 (ys_0 p.1 hk.2.1 _ _ (fun j _ _ => rfl) (fun j _ _ => rfl)) (by omega) (by omega) (fun j N h1 h2 h3 h4 _ => HD j N (by omega) (by omega) (by omega) (by omega)) (fun q2 => K (fun N h1 h2 => ?_))
    by_cases z : N < ds_cc (ds ++ base)
    · exact q1 N h1 z
    · exact q2 N (by omega) (by omega)
theorem yp_taken {post : Int32 → Prop} {p0 : Int32} {top r : ds_D} {t : tr_T} {L : List mt_M} {F : Nat → Nat} (hv : vn = nI (ds_sz (top ++ (t, L) :: r))) (hok : ds_ok (top ++ (t, L) :: r)) (g : ry_ds bk ba (top ++ (t, L) :: r)) (hs : ds_sz (top ++ (t, L) :: r) ≤ 40) (hc : ds_cc (top ++ (t, L) :: r) ≤ 6)
    (hvp : vp = 1) (hvf : vf = nI (ds_sz r)) (hvg : vg = nI (ds_sz r + tr_sz t) - 1) (hy : ys_at bs F t (ds_sz r) (ds_cc r))
    (K0 : ∀ N, ds_cc r ≤ N → N < ds_cc r + tr_cc t → nI N = p0 → post (nI (F N))) (K1 : (∀ N, ds_cc r ≤ N → N < ds_cc r + tr_cc t → ¬ nI N = p0) → post (-1)) : wpY_taken post (vn, vN, vC, vH, vl, vh, vp, vf, vg, bk, ba, bc, bo, bh, bb, bf, bs) p0 := by
  subst hv hvp hvf hvg
  have hle := ds_le_split top ((t, L) :: r)
  have hok1 : ds_ok ((t, L) :: r) := ds_ok_split top _ hok
  have g1 : ry_ds bk ba ((t, L) :: r) := ry_ds_split top _ g
  have es : ds_sz ((t, L) :: r) = ds_sz r + tr_sz t := rfl
  have ec : ds_cc ((t, L) :: r) = ds_cc r + tr_cc t := rfl
  refine br_f (by decide) ?_
  have nn : ∀ N M : Nat, N < 7 → M < 7 → N ≠ M → nI N = p0 → ¬ nI M = p0 := fun N M h1 h2 h3 h4 h5 => h3 ((nI_eq (by omega) (by omega)).mp (h4.trans h5.symm))
  -- the documents above
  obtain ⟨n3, W3⟩ : ∃ n3, (∀ N, ds_cc r ≤ N → N < ds_cc r + tr_cc t → ¬ nI N = p0) → wY_taken_13 post p0 (nI (ds_sz (top ++ (t, L) :: r))) vN vC vH vl vh 1 (nI (ds_sz r)) (nI (ds_sz r + tr_sz t) - 1) bk ba bc bo bh bb bf bs n3 (nI (ds_cc ((t, L) :: r))) (nI (ds_sz ((t, L) :: r))) := by
    by_cases q : ∀ N, ds_cc r ≤ N → N < ds_cc r + tr_cc t → ¬ nI N = p0
    · obtain ⟨n, W⟩ := yt_ds (post := post) (p0 := p0) (vN := vN) (vC := vC) (vH := vH) (vl := vl) (vh := vh) (vp := 1) (vf := nI (ds_sz r)) (vg := nI (ds_sz r + tr_sz t) - 1) (bk := bk) (ba := ba) (bc := bc) (bo := bo) (bh := bh) (bb := bb) (bf := bf) (bs := bs) (e := ds_sz (top ++ (t, L) :: r)) hs top ((t, L) :: r) hok 1 g (Nat.le_refl _) hc
        (fun j N h1 h2 h3 h4 h5 => br_f (nI_nlt (by omega) (by omega)) (br_t ((yz_lt (by omega) (by omega)).mpr (by omega)) (K1 q))) (fun _ => br_t (nI_le (Nat.le_refl _) (by omega)) (K1 q))
      exact ⟨n, fun _ => W⟩
    · exact ⟨0, fun z => absurd z q⟩
  -- the page's document, then those below
  obtain ⟨n1, W1⟩ := yt_ds (post := post) (p0 := p0) (vN := vN) (vC := vC) (vH := vH) (vl := vl) (vh := vh) (vp := 1) (vf := nI (ds_sz r)) (vg := nI (ds_sz r + tr_sz t) - 1) (bk := bk) (ba := ba) (bc := bc) (bo := bo) (bh := bh) (bb := bb) (bf := bf) (bs := bs) (e := ds_sz (top ++ (t, L) :: r)) hs r [] (by rw [List.append_nil]; exact hok1.1) (n3 + tr_sz t) (by rw [List.append_nil]; exact g1.1) (by rw [List.append_nil]; omega) (by rw [List.append_nil]; omega)
    (fun j N h1 h2 h3 h4 h5 => by
      rw [List.append_nil] at h2 h4
      exact br_t (nI_lt (by omega) (by omega)) (K1 (fun M m1 m2 => nn N M (by omega) (by omega) (by omega) h5)))
    (fun _ => by
      rw [List.append_nil]
      refine yt_tree hs t hok1.2.1 _ _ n3 g1.2 hy (by omega) (by omega) (fun j N h1 h2 h3 h4 h5 h6 => ?_) (fun q => W3 q)
      have c : (nI j).toNatClampNeg = j := nI_clamp (by omega)
      refine br_f (nI_nlt (by omega) (by omega)) <| br_f (by rw [yz_lt (by omega) (by omega)]; omega) <| And.intro (vp_in_nI (by omega) (by omega)) ?_
      rw [c, h5]
      exact K0 N h3 h4 h6)
  exact ⟨n1, W1⟩
end
end
section
/-! the relation -/
def rp_P (ds : ds_D) (ph pw rc : Int32) (lE rN rR rC st nV nS pl : Nat → Int32) (vl vp vf vg : Int32) (bo bs : Nat → Int32) : Prop :=
  (ph = 0 ∧ vp = 0) ∨ (∃ (top r : ds_D) (t : tr_T) (L : List mt_M) (S : List Nat) (R : List pr_R) (F : Nat → Nat), ds = top ++ (t, L) :: r ∧ px_P S R (ds_cc r) (tr_cc t) F ph pw rc lE rN rR rC st nV nS pl ∧
    vp = 1 ∧ vl = nI S.length ∧ al_at bo 0 S ∧ S.length < 30000 ∧ (∀ c, c ∈ S → c < 127) ∧ ys_at bs F t (ds_sz r) (ds_cc r) ∧ vf = nI (ds_sz r) ∧ vg = nI (ds_sz r + tr_sz t) - 1)
def i_Rel (k : Nat) (u : SX) (v : SY) : Prop := match u, v with
  | (kT, kF, kN, kA, kB, kC, sH, sN, sE, nl, cl, hl, doc, nod, chr, cho, mea, sc, ph, pw, rc, dep, dN, dC, dH, dM, nK, nV, nZ, nS, pl, mH, mW, mL, mR, cH, cW, cL, cR, lE, rN, rR, rC, st, tN, tB, tS), (vn, vN, vC, vH, vl, vh, vp, vf, vg, bk, ba, bc, bo, bh, bb, bf, bs) => ∃ (N C H : Nat) (χ : Nat → Nat) (ds : ds_D), ds_in N C H χ ds ∧ rx_R N C H χ ds nl cl hl doc nod chr cho mea dN dC dH dM nK nV nZ nS pl mH mW mL mR ∧ ry_R N C H χ ds vn vN vC vH bk ba bc ∧ (∃ l, l ≤ 30000 ∧ vl = nI l) ∧ rp_P ds ph pw rc lE rN rR rC st nV nS pl vl vp vf vg bo bs
theorem zz_el {k : Nat} {u : SX} {v : SY} {P : SX → SY → Prop} (h : ∀ (kT kF kN kA kB kC sH sN sE nl cl hl doc nod chr cho mea sc ph pw rc dep : Int32) (dN dC dH dM nK nV nZ nS pl mH mW mL mR cH cW cL cR lE rN rR rC st tN tB tS : Nat → Int32) (vn vN vC vH vl vh vp vf vg : Int32) (bk ba bc bo bh bb bf bs : Nat → Int32) (N C H : Nat) (χ : Nat → Nat) (ds : ds_D), ds_in N C H χ ds → rx_R N C H χ ds nl cl hl doc nod chr cho mea dN dC dH dM nK nV nZ nS pl mH mW mL mR → ry_R N C H χ ds vn vN vC vH bk ba bc → (∃ l, l ≤ 30000 ∧ vl = nI l) → rp_P ds ph pw rc lE rN rR rC st nV nS pl vl vp vf vg bo bs → P (kT, kF, kN, kA, kB, kC, sH, sN, sE, nl, cl, hl, doc, nod, chr, cho, mea, sc, ph, pw, rc, dep, dN, dC, dH, dM, nK, nV, nZ, nS, pl, mH, mW, mL, mR, cH, cW, cL, cR, lE, rN, rR, rC, st, tN, tB, tS) (vn, vN, vC, vH, vl, vh, vp, vf, vg, bk, ba, bc, bo, bh, bb, bf, bs)) (I : i_Rel k u v) : P u v :=
  match u, v, I with
  | (kT, kF, kN, kA, kB, kC, sH, sN, sE, nl, cl, hl, doc, nod, chr, cho, mea, sc, ph, pw, rc, dep, dN, dC, dH, dM, nK, nV, nZ, nS, pl, mH, mW, mL, mR, cH, cW, cL, cR, lE, rN, rR, rC, st, tN, tB, tS), (vn, vN, vC, vH, vl, vh, vp, vf, vg, bk, ba, bc, bo, bh, bb, bf, bs), ⟨N, C, H, χ, ds, h1, h2, h3, h4, h5⟩ => h kT kF kN kA kB kC sH sN sE nl cl hl doc nod chr cho mea sc ph pw rc dep dN dC dH dM nK nV nZ nS pl mH mW mL mR cH cW cL cR lE rN rR rC st tN tB tS vn vN vC vH vl vh vp vf vg bk ba bc bo bh bb bf bs N C H χ ds h1 h2 h3 h4 h5
section
variable {kT kF kN kA kB kC sH sN sE nl cl hl doc nod chr cho mea sc ph pw rc dep : Int32} {dN dC dH dM nK nV nZ nS pl mH mW mL mR cH cW cL cR lE rN rR rC st tN tB tS : Nat → Int32}
variable {vn vN vC vH vl vh vp vf vg : Int32} {bk ba bc bo bh bb bf bs : Nat → Int32}
theorem zz_mk {k N C H : Nat} {χ : Nat → Nat} {ds : ds_D} (h1 : ds_in N C H χ ds) (h2 : rx_R N C H χ ds nl cl hl doc nod chr cho mea dN dC dH dM nK nV nZ nS pl mH mW mL mR) (h3 : ry_R N C H χ ds vn vN vC vH bk ba bc) (h4 : ∃ l, l ≤ 30000 ∧ vl = nI l) (h5 : rp_P ds ph pw rc lE rN rR rC st nV nS pl vl vp vf vg bo bs) : i_Rel k (kT, kF, kN, kA, kB, kC, sH, sN, sE, nl, cl, hl, doc, nod, chr, cho, mea, sc, ph, pw, rc, dep, dN, dC, dH, dM, nK, nV, nZ, nS, pl, mH, mW, mL, mR, cH, cW, cL, cR, lE, rN, rR, rC, st, tN, tB, tS) (vn, vN, vC, vH, vl, vh, vp, vf, vg, bk, ba, bc, bo, bh, bb, bf, bs) := ⟨N, C, H, χ, ds, h1, h2, h3, h4, h5⟩
/-- after a feeding call: no page -/
theorem zz_fd {k N C H : Nat} {χ : Nat → Nat} {ds : ds_D} (h1 : ds_in N C H χ ds) (h2 : rx_R N C H χ ds nl cl hl doc nod chr cho mea dN dC dH dM nK nV nZ nS pl mH mW mL mR) (h3 : ry_R N C H χ ds vn vN vC vH bk ba bc) (h4 : ∃ l, l ≤ 30000 ∧ vl = nI l) : i_Rel k (kT, kF, kN, kA, kB, kC, sH, sN, sE, nl, cl, hl, doc, nod, chr, cho, mea, sc, 0, pw, rc, dep, dN, dC, dH, dM, nK, nV, nZ, nS, pl, mH, mW, mL, mR, cH, cW, cL, cR, lE, rN, rR, rC, st, tN, tB, tS) (vn, vN, vC, vH, vl, vh, 0, vf, vg, bk, ba, bc, bo, bh, bb, bf, bs) := ⟨N, C, H, χ, ds, h1, h2, h3, h4, Or.inl ⟨rfl, rfl⟩⟩
end
theorem tr_root {t : tr_T} (ht : tr_ok t) : (∃ n, t = .var n) ∨ ((∀ nK nV nZ nS s c o, rx_nd nK nV nZ nS t s c o → ¬ nK (s + tr_sz t - 1) = 0) ∧ (∀ bk ba s, ry_nd bk ba t s → ¬ bk (s + tr_sz t - 1) = 0)) := by
  have d1 : ¬ nI 1 = 0 := by decide
  have d2 : ¬ nI 2 = 0 := by decide
  have d3 : ¬ nI 3 = 0 := by decide
  have d4 : ¬ nI 4 = 0 := by decide
  have d5 : ¬ nI 5 = 0 := by decide
  cases t with
  | num k => exact False.elim ht
  | natCast k => exact False.elim ht
  | intCast k => exact False.elim ht
  | var n => exact Or.inl ⟨n, rfl⟩
  | neg a => exact Or.inr ⟨fun _ _ _ _ s _ _ h => by show ¬ _ = _; rw [show s + tr_sz (.neg a) - 1 = s + tr_sz a from rfl, h.2.1]; exact d1, fun _ _ s h => by rw [show s + tr_sz (.neg a) - 1 = s + tr_sz a from rfl, h.2]; exact d1⟩
  | pow a k => exact Or.inr ⟨fun _ _ _ _ s _ _ h => by rw [show s + tr_sz (.pow a k) - 1 = s + tr_sz a from rfl, h.2.1]; exact d2, fun _ _ s h => by rw [show s + tr_sz (.pow a k) - 1 = s + tr_sz a from rfl, h.2.1]; exact d2⟩
  | add a b => exact Or.inr ⟨fun _ _ _ _ s _ _ h => by rw [show s + tr_sz (.add a b) - 1 = s + (tr_sz a + tr_sz b) from rfl, h.2.2.1]; exact d4, fun _ _ s h => by rw [show s + tr_sz (.add a b) - 1 = s + (tr_sz a + tr_sz b) from rfl, h.2.2]; exact d3⟩
  | sub a b => exact Or.inr ⟨fun _ _ _ _ s _ _ h => by rw [show s + tr_sz (.sub a b) - 1 = s + (tr_sz a + tr_sz b) from rfl, h.2.2.1]; exact d3, fun _ _ s h => by rw [show s + tr_sz (.sub a b) - 1 = s + (tr_sz a + tr_sz b) from rfl, h.2.2]; exact d4⟩
  | mul a b => exact Or.inr ⟨fun _ _ _ _ s _ _ h => by rw [show s + tr_sz (.mul a b) - 1 = s + (tr_sz a + tr_sz b) from rfl, h.2.2.1]; exact d5, fun _ _ s h => by rw [show s + tr_sz (.mul a b) - 1 = s + (tr_sz a + tr_sz b) from rfl, h.2.2]; exact d5⟩
theorem i_up {k : Nat} {u : SX} {v : SY} (h : i_Rel k u v) : i_Rel (k + 3) u v := h
/-! the constructors -/
section
variable {kT kF kN kA kB kC sH sN sE nl cl hl doc nod chr cho mea sc ph pw rc dep : Int32} {dN dC dH dM nK nV nZ nS pl mH mW mL mR cH cW cL cR lE rN rR rC st tN tB tS : Nat → Int32}
theorem cl_3 (p : Int32) (lo hi : Nat) (h : lo ≤ hi) (hh : hi < 1000) : ∃ N, lo ≤ N ∧ N ≤ hi ∧ (∀ (A : Int32 → Prop), A (nI N) → ((nI lo ≤ p → ((p ≤ nI hi → A p) ∧ (¬ p ≤ nI hi → A (nI hi)))) ∧ (¬ nI lo ≤ p → A (nI lo)))) := by
  by_cases a : nI lo ≤ p
  · by_cases b : p ≤ nI hi
    · have hp : ¬ p < 0 := by
        have : (0 : Int32) ≤ nI lo := nI_pos' (by omega)
        exact Int32.not_lt.mpr (Int32.le_trans this a)
      obtain ⟨j, hj, rfl⟩ := nI_of hp
      rw [nI_leI (by omega) hj] at a
      rw [nI_leI hj (by omega)] at b
      exact ⟨j, a, b, fun A K => br_t (nI_le a hj) (br_t (nI_le b (by omega)) K)⟩
    · exact ⟨hi, h, Nat.le_refl _, fun A K => br_t a (br_f b K)⟩
  · exact ⟨lo, Nat.le_refl _, h, fun A K => br_f a K⟩
theorem cl_X {post : Int32 → Prop} {p lo hi : Int32} {N : Nat} (h : ∀ A : Int32 → Prop, A (nI N) → ((lo ≤ p → ((p ≤ hi → A p) ∧ (¬ p ≤ hi → A hi))) ∧ (¬ lo ≤ p → A lo))) (K : post (nI N)) : wpX_clamp post (kT, kF, kN, kA, kB, kC, sH, sN, sE, nl, cl, hl, doc, nod, chr, cho, mea, sc, ph, pw, rc, dep, dN, dC, dH, dM, nK, nV, nZ, nS, pl, mH, mW, mL, mR, cH, cW, cL, cR, lE, rN, rR, rC, st, tN, tB, tS) p lo hi := h post K
end
theorem i_vc0 (k0 : Int32) (k1 : Int32) (k2 : Int32) : wpX_init (fun u => wpY_init (fun v => i_Rel 3 u v) k0 k1 k2) k0 k1 k2 := by
  obtain ⟨N, n1, n2, HN⟩ := cl_3 k0 8 40 (by omega) (by omega)
  obtain ⟨C, c1, c2, HC⟩ := cl_3 k1 8 64 (by omega) (by omega)
  obtain ⟨H, h1, h2, HH⟩ := cl_3 k2 1 6 (by omega) (by omega)
  unfold wpX_init
  refine cl_X HN ?_
  refine cl_X HC ?_
  refine cl_X HH ?_
  refine HN (fun z => wY_init_94 _ k1 k2 z _ _ _ _ _ _ _ _ _ _ _ _ _ _ _ _ _) (HC (fun z => wY_init_121 _ k2 z _ _ _ _ _ _ _ _ _ _ _ _ _ _ _ _ _) (HH (fun z => i_Rel 3 _ (0, nI N, nI C, z, 0, 0, 0, 0, 0, fun _ => 0, fun _ => 0, fun _ => 0, fun _ => 0, fun _ => 0, fun _ => 0, fun _ => 0, fun _ => 0)) ?_))
  exact zz_mk (N := N) (C := C) (H := H) (χ := fun _ => 32) (ds := []) ⟨n1, n2, c2, h2, Nat.zero_le _, Nat.zero_le _, Nat.zero_le _, trivial, fun i => ⟨by show 32 ≤ 32; omega, by show 32 ≤ 126; omega⟩⟩
    ⟨rfl, rfl, rfl, rfl, rfl, rfl, rfl, rfl, ⟨rfl, rfl, rfl, rfl⟩, fun i hi => absurd hi (Nat.not_lt_zero _)⟩ ⟨rfl, rfl, rfl, rfl, trivial, fun i hi => absurd hi (Nat.not_lt_zero _)⟩ ⟨0, by omega, rfl⟩ (Or.inl ⟨rfl, rfl⟩)
end
section
theorem i_vc_text {k : Nat} {u : SX} {v : SY} (I : i_Rel k u v) (hk : k + 3 ≤ 1539) (v1 : Int32) (v2 : Int32) : wpX_text (fun r u' => wpY_text (fun r' v' => r' = r ∧ i_Rel (k + 3) u' v') v v1 v2) u v1 v2 := by
  refine zz_el (P := fun u v => wpX_text (fun r u' => wpY_text (fun r' v' => r' = r ∧ i_Rel (k + 3) u' v') v v1 v2) u v1 v2) ?_ I
  intro kT kF kN kA kB kC sH sN sE nl cl hl doc nod chr cho mea sc ph pw rc dep dN dC dH dM nK nV nZ nS pl mH mW mL mR cH cW cL cR lE rN rR rC st tN tB tS vn vN vC vH vl vh vp vf vg bk ba bc bo bh bb bf bs N C H χ ds hp hx hy hl0 hpg
  have KEEP : i_Rel (k + 3) (kT, kF, kN, kA, kB, kC, sH, sN, sE, nl, cl, hl, doc, nod, chr, cho, mea, sc, ph, pw, rc, dep, dN, dC, dH, dM, nK, nV, nZ, nS, pl, mH, mW, mL, mR, cH, cW, cL, cR, lE, rN, rR, rC, st, tN, tB, tS) (vn, vN, vC, vH, vl, vh, vp, vf, vg, bk, ba, bc, bo, bh, bb, bf, bs) := zz_mk hp hx hy hl0 hpg
  have hp' := hp
  obtain ⟨hN8, hN40, hC64, hH6, q1, q2, q3, hok, hχ⟩ := hp'
  have hlen := ds_len_sz ds
  obtain ⟨e1, e2, e3, e4, e5, e6, e7, e8, gX, plX⟩ := id hx
  obtain ⟨y1, y2, y3, y4, gY, bcY⟩ := id hy
  by_cases a1 : v1 < 32
  · exact br_t a1 (br_t a1 ⟨rfl, KEEP⟩)
  by_cases a2 : 126 < v1
  · exact br_f a1 (br_t a2 (br_f a1 (br_t a2 ⟨rfl, KEEP⟩)))
  by_cases a3 : v2 < 0
  · exact br_f a1 (br_f a2 (br_t a3 (br_f a1 (br_f a2 (br_t a3 ⟨rfl, KEEP⟩)))))
  by_cases a4 : v2 ≤ 8
  case neg => exact br_f a1 (br_f a2 (br_f a3 (br_f a4 (br_f a1 (br_f a2 (br_f a3 (br_f a4 ⟨rfl, KEEP⟩)))))))
  obtain ⟨n, hn, rfl⟩ := nI_of2 (M := 8) (n := 8) (by decide) a3 a4
  obtain ⟨cv, hcv, rfl⟩ := nI_of2 (M := 126) (n := 126) (x := v1) (by decide) (fun z => a1 (Int32.lt_trans z (by decide))) (Int32.not_lt.mp a2)
  have hc1 : 32 ≤ cv := by
    rcases Nat.lt_or_ge cv 32 with z | z
    · exact absurd (nI_lt (b := 32) z (by omega)) a1
    · exact z
  by_cases b1 : ds_sz ds + 1 ≤ N
  · by_cases b2 : ds_nc ds + n ≤ C
    · refine xp_text hp hx hc1 hcv hn b1 b2 ?_
      intro Q doc nod chr cho mea sc dN dC dH dM nK nV nZ nS pl mH mW mL mR cH cW cL cR hok' hx'
      refine yp_text hp hy hc1 hcv hn (fun z => absurd b1 (by omega)) (fun _ z => absurd b2 (by omega)) ?_
      intro _ _ Q' vn bk ba bc hy'
      refine ⟨rfl, zz_fd (ds := (.var n, Q) :: ds) ⟨hN8, hN40, hC64, hH6, ?_, ?_, ?_, hok', fun i => ?_⟩ hx' hy' hl0⟩
      · simp only [ds_sz, tr_sz]; omega
      · simp only [ds_nc, tr_nc]; omega
      · simp only [ds_cc, tr_cc]; omega
      · try dsimp only
        by_cases z : i < ds_nc ds
        · rw [if_pos z]; exact hχ i
        · rw [if_neg z]; omega
    · refine br_f a1 <| br_f a2 <| br_f a3 <| br_t a4 <| br_f (by rw [e1, e5, nI_1]; exact nI_nlt (by omega) (by omega)) <| br_f (by rw [e2, e6, nI_add]; exact nI_ge (by omega) (by omega)) ?_
      exact yp_text hp hy hc1 hcv hn (fun z => absurd b1 (by omega)) (fun _ _ => ⟨rfl, KEEP⟩) (fun _ z => absurd z b2)
  · refine br_f a1 <| br_f a2 <| br_f a3 <| br_t a4 <| br_t (by rw [e1, e5, nI_1]; exact nI_lt (by omega) (by omega)) ?_
    exact yp_text hp hy hc1 hcv hn (fun _ => ⟨rfl, KEEP⟩) (fun z => absurd z b1) (fun z => absurd z b1)
theorem i_vc_put {k : Nat} {u : SX} {v : SY} (I : i_Rel k u v) (hk : k + 3 ≤ 1539) (v1 : Int32) : wpX_put (fun r u' => wpY_put (fun r' v' => r' = r ∧ i_Rel (k + 3) u' v') v v1) u v1 := by
  refine zz_el (P := fun u v => wpX_put (fun r u' => wpY_put (fun r' v' => r' = r ∧ i_Rel (k + 3) u' v') v v1) u v1) ?_ I
  intro kT kF kN kA kB kC sH sN sE nl cl hl doc nod chr cho mea sc ph pw rc dep dN dC dH dM nK nV nZ nS pl mH mW mL mR cH cW cL cR lE rN rR rC st tN tB tS vn vN vC vH vl vh vp vf vg bk ba bc bo bh bb bf bs N C H χ ds hp hx hy hl0 hpg
  have KEEP : i_Rel (k + 3) (kT, kF, kN, kA, kB, kC, sH, sN, sE, nl, cl, hl, doc, nod, chr, cho, mea, sc, ph, pw, rc, dep, dN, dC, dH, dM, nK, nV, nZ, nS, pl, mH, mW, mL, mR, cH, cW, cL, cR, lE, rN, rR, rC, st, tN, tB, tS) (vn, vN, vC, vH, vl, vh, vp, vf, vg, bk, ba, bc, bo, bh, bb, bf, bs) := zz_mk hp hx hy hl0 hpg
  have hp' := hp
  obtain ⟨hN8, hN40, hC64, hH6, q1, q2, q3, hok, hχ⟩ := hp'
  have hlen := ds_len_sz ds
  obtain ⟨e1, e2, e3, e4, e5, e6, e7, e8, gX, plX⟩ := id hx
  obtain ⟨y1, y2, y3, y4, gY, bcY⟩ := id hy
  by_cases a1 : v1 < 32
  · exact br_t a1 (br_t a1 ⟨rfl, KEEP⟩)
  by_cases a2 : v1 ≤ 126
  case neg => exact br_f a1 (br_f a2 (br_f a1 (br_f a2 ⟨rfl, KEEP⟩)))
  cases ds with
  | nil =>
    have z1 : ¬ 1 ≤ doc := by rw [e4]; decide
    have z2 : vn = 0 := y1
    exact br_f a1 (br_t a2 (br_f z1 (br_f a1 (br_t a2 (br_t z2 ⟨rfl, KEEP⟩)))))
  | cons p r =>
    obtain ⟨t, L⟩ := p
    have hz := tr_sz_pos t
    have hds : ds_sz ((t, L) :: r) = ds_sz r + tr_sz t := rfl
    have z1 : 1 ≤ doc := by rw [e4]; exact nI_le (a := 1) (by simp only [List.length_cons]; omega) (by omega)
    have z2 : ¬ vn = 0 := by rw [y1]; exact nI_ne0 (by omega) (by omega)
    have cX : (nod - 1).toNatClampNeg = ds_sz r + tr_sz t - 1 := by rw [e5, nI_m1 (by omega)]; exact nI_clamp (by omega)
    have iX : vp_in (nod - 1) 40 := by rw [e5, nI_m1 (by omega)]; exact vp_in_nI (by omega) (by omega)
    have cY : (vn - 1).toNatClampNeg = ds_sz r + tr_sz t - 1 := by rw [y1, nI_m1 (by omega)]; exact nI_clamp (by omega)
    have iY : vp_in (vn - 1) 40 := by rw [y1, nI_m1 (by omega)]; exact vp_in_nI (by omega) (by omega)
    rcases tr_root (t := t) hok.2.1 with ⟨n, rfl⟩ | ⟨tx, ty⟩
    · obtain ⟨cv, hcv, rfl⟩ := nI_of2 (M := 126) (n := 126) (x := v1) (by decide) (fun z => a1 (Int32.lt_trans z (by decide))) a2
      have hc1 : 32 ≤ cv := by
        rcases Nat.lt_or_ge cv 32 with z | z
        · exact absurd (nI_lt (b := 32) z (by omega)) a1
        · exact z
      have hnc : ds_nc ((.var n, L) :: r) = ds_nc r + n := rfl
      by_cases b1 : ds_nc r + n + 1 ≤ C
      · refine xp_put hp hx hc1 hcv (by omega) ?_
        intro Q doc nod chr cho mea sc dN dC dH dM nK nV nZ nS pl mH mW mL mR cH cW cL cR hok' hx'
        refine yp_put hp hy hc1 hcv (fun z => absurd b1 (by omega)) ?_
        intro _ Q' vn bk ba bc hy'
        refine ⟨rfl, zz_fd (ds := (.var (n + 1), Q) :: r) ⟨hN8, hN40, hC64, hH6, q1, ?_, q3, hok', fun i => ?_⟩ hx' hy' hl0⟩
        · simp only [ds_nc, tr_nc]; omega
        · try dsimp only
          by_cases z : i < ds_nc r + n
          · rw [if_pos z]; exact hχ i
          · rw [if_neg z]; omega
      · have g1 : nK (ds_sz r) = nI 0 := gX.2.2.1.1
        refine br_f a1 <| br_t a2 <| br_t z1 <| And.intro iX <| br_t (by rw [cX]; exact g1) <| br_f (by rw [e2, e6, nI_1]; exact nI_ge (by omega) (by omega)) ?_
        exact yp_put hp hy hc1 hcv (fun _ => ⟨rfl, KEEP⟩) (fun z => absurd z b1)
    · refine br_f a1 <| br_t a2 <| br_t z1 <| And.intro iX <| br_f (by rw [cX]; exact tx _ _ _ _ _ _ _ gX.2.2.1) ?_
      exact br_f a1 <| br_t a2 <| br_f z2 <| And.intro iY <| br_f (by rw [cY]; exact ty _ _ _ gY.2) ⟨rfl, KEEP⟩
theorem i_vc_flush {k : Nat} {u : SX} {v : SY} (I : i_Rel k u v) (hk : k + 3 ≤ 1539) : wpX_flush (fun r u' => wpY_flush (fun r' v' => r' = r ∧ i_Rel (k + 3) u' v') v) u := by
  refine zz_el (P := fun u v => wpX_flush (fun r u' => wpY_flush (fun r' v' => r' = r ∧ i_Rel (k + 3) u' v') v) u) ?_ I
  intro kT kF kN kA kB kC sH sN sE nl cl hl doc nod chr cho mea sc ph pw rc dep dN dC dH dM nK nV nZ nS pl mH mW mL mR cH cW cL cR lE rN rR rC st tN tB tS vn vN vC vH vl vh vp vf vg bk ba bc bo bh bb bf bs N C H χ ds hp hx hy hl0 hpg
  have KEEP : i_Rel (k + 3) (kT, kF, kN, kA, kB, kC, sH, sN, sE, nl, cl, hl, doc, nod, chr, cho, mea, sc, ph, pw, rc, dep, dN, dC, dH, dM, nK, nV, nZ, nS, pl, mH, mW, mL, mR, cH, cW, cL, cR, lE, rN, rR, rC, st, tN, tB, tS) (vn, vN, vC, vH, vl, vh, vp, vf, vg, bk, ba, bc, bo, bh, bb, bf, bs) := zz_mk hp hx hy hl0 hpg
  have hp' := hp
  obtain ⟨hN8, hN40, hC64, hH6, q1, q2, q3, hok, hχ⟩ := hp'
  have hlen := ds_len_sz ds
  obtain ⟨e1, e2, e3, e4, e5, e6, e7, e8, gX, plX⟩ := id hx
  obtain ⟨y1, y2, y3, y4, gY, bcY⟩ := id hy
  cases ds with
  | nil =>
    subst e4 y1
    unfold wpX_flush wpY_flush
    refine xq_few (d := 0) (p := 1) (by omega) (by omega) (br_f (by decide) ?_)
    exact yb_few (ds := []) (need := 1) trivial gY (by simp only [ds_sz]; omega) (by simp only [List.length_nil]; omega) (by omega) ⟨rfl, KEEP⟩
  | cons p r =>
    obtain ⟨t, L⟩ := p
    by_cases b1 : ds_sz ((t, L) :: r) + 1 ≤ N
    · refine xp_flush hp hx b1 ?_
      intro Q doc nod chr cho mea sc dN dC dH dM nK nV nZ nS pl mH mW mL mR cH cW cL cR hok' hx'
      subst y1 y2
      unfold wpY_flush
      refine yb_ok (kd := 1) (need := 1) hok gY b1 hN40 (by simp only [List.length_cons]; omega) (by omega) ⟨rfl, ?_⟩
      refine zz_fd (ds := (.neg t, Q) :: r) ⟨hN8, hN40, hC64, hH6, ?_, q2, q3, hok', hχ⟩ hx' ⟨congrArg nI ?_, rfl, y3, y4, ry_push hok.1 gY.1 (fun j hj => ry_un ?_) ⟨ry_nd_c0 (t := t) hok.2.1 (fun j h1 h2 => ry_un (by simp only [ds_sz]; omega)) gY.2, pk_us⟩, bcY⟩ hl0
      · simp only [ds_sz, tr_sz] at b1 ⊢; omega
      · simp only [ds_sz, tr_sz]; omega
      · have := tr_sz_pos t; simp only [ds_sz]; omega
    · subst e1 e4 e5 y1 y2
      unfold wpX_flush wpY_flush
      refine xq_full (d := r.length + 1) (p := 1) (s := ds_sz ((t, L) :: r)) (N := N) (by omega) (by simp only [List.length_cons] at hlen; omega) (by omega) (by omega) (br_f (by decide) ?_)
      exact yb_full (need := 1) hok gY (by omega) (by simp only [List.length_cons]; omega) (by omega) ⟨rfl, KEEP⟩
theorem i_vc_nest {k : Nat} {u : SX} {v : SY} (I : i_Rel k u v) (hk : k + 3 ≤ 1539) (v1 : Int32) : wpX_nest (fun r u' => wpY_nest (fun r' v' => r' = r ∧ i_Rel (k + 3) u' v') v v1) u v1 := by
  refine zz_el (P := fun u v => wpX_nest (fun r u' => wpY_nest (fun r' v' => r' = r ∧ i_Rel (k + 3) u' v') v v1) u v1) ?_ I
  intro kT kF kN kA kB kC sH sN sE nl cl hl doc nod chr cho mea sc ph pw rc dep dN dC dH dM nK nV nZ nS pl mH mW mL mR cH cW cL cR lE rN rR rC st tN tB tS vn vN vC vH vl vh vp vf vg bk ba bc bo bh bb bf bs N C H χ ds hp hx hy hl0 hpg
  have KEEP : i_Rel (k + 3) (kT, kF, kN, kA, kB, kC, sH, sN, sE, nl, cl, hl, doc, nod, chr, cho, mea, sc, ph, pw, rc, dep, dN, dC, dH, dM, nK, nV, nZ, nS, pl, mH, mW, mL, mR, cH, cW, cL, cR, lE, rN, rR, rC, st, tN, tB, tS) (vn, vN, vC, vH, vl, vh, vp, vf, vg, bk, ba, bc, bo, bh, bb, bf, bs) := zz_mk hp hx hy hl0 hpg
  have hp' := hp
  obtain ⟨hN8, hN40, hC64, hH6, q1, q2, q3, hok, hχ⟩ := hp'
  have hlen := ds_len_sz ds
  obtain ⟨e1, e2, e3, e4, e5, e6, e7, e8, gX, plX⟩ := id hx
  obtain ⟨y1, y2, y3, y4, gY, bcY⟩ := id hy
  by_cases a1 : v1 < 0
  · exact br_t a1 (br_t a1 ⟨rfl, KEEP⟩)
  by_cases a2 : v1 ≤ 15
  case neg => exact br_f a1 (br_f a2 (br_f a1 (br_f a2 ⟨rfl, KEEP⟩)))
  obtain ⟨kn, hkn, rfl⟩ := nI_of2 (M := 15) (n := 15) (by decide) a1 a2
  cases ds with
  | nil =>
    subst e4 y1
    unfold wpX_nest wpY_nest
    refine br_f a1 <| br_t a2 <| xq_few (d := 0) (p := 1) (by omega) (by omega) (br_f (by decide) ?_)
    exact br_f a1 <| br_t a2 <| yb_few (ds := []) (need := 1) trivial gY (by simp only [ds_sz]; omega) (by simp only [List.length_nil]; omega) (by omega) ⟨rfl, KEEP⟩
  | cons p r =>
    obtain ⟨t, L⟩ := p
    by_cases b1 : ds_sz ((t, L) :: r) + 1 ≤ N
    · refine xp_nest hkn hp hx b1 ?_
      intro Q doc nod chr cho mea sc dN dC dH dM nK nV nZ nS pl mH mW mL mR cH cW cL cR hok' hx'
      subst y1 y2
      unfold wpY_nest
      refine br_f a1 <| br_t a2 <| yb_ok (kd := 2) (need := 1) hok gY b1 hN40 (by simp only [List.length_cons]; omega) (by omega) ⟨rfl, ?_⟩
      refine zz_fd (ds := (.pow t kn, Q) :: r) ⟨hN8, hN40, hC64, hH6, ?_, q2, q3, hok', hχ⟩ hx' ⟨congrArg nI ?_, rfl, y3, y4, ry_push hok.1 gY.1 (fun j hj => ry_un ?_) ⟨ry_nd_c0 (t := t) hok.2.1 (fun j h1 h2 => ry_un (by simp only [ds_sz]; omega)) gY.2, pk_us, pk_us⟩, bcY⟩ hl0
      · simp only [ds_sz, tr_sz] at b1 ⊢; omega
      · simp only [ds_sz, tr_sz]; omega
      · have := tr_sz_pos t; simp only [ds_sz]; omega
    · subst e1 e4 e5 y1 y2
      unfold wpX_nest wpY_nest
      refine br_f a1 <| br_t a2 <| xq_full (d := r.length + 1) (p := 1) (s := ds_sz ((t, L) :: r)) (N := N) (by omega) (by simp only [List.length_cons] at hlen; omega) (by omega) (by omega) (br_f (by decide) ?_)
      exact br_f a1 <| br_t a2 <| yb_full (need := 1) hok gY (by omega) (by simp only [List.length_cons]; omega) (by omega) ⟨rfl, KEEP⟩
theorem i_vc_beside {k : Nat} {u : SX} {v : SY} (I : i_Rel k u v) (hk : k + 3 ≤ 1539) : wpX_beside (fun r u' => wpY_beside (fun r' v' => r' = r ∧ i_Rel (k + 3) u' v') v) u := by
  refine zz_el (P := fun u v => wpX_beside (fun r u' => wpY_beside (fun r' v' => r' = r ∧ i_Rel (k + 3) u' v') v) u) ?_ I
  intro kT kF kN kA kB kC sH sN sE nl cl hl doc nod chr cho mea sc ph pw rc dep dN dC dH dM nK nV nZ nS pl mH mW mL mR cH cW cL cR lE rN rR rC st tN tB tS vn vN vC vH vl vh vp vf vg bk ba bc bo bh bb bf bs N C H χ ds hp hx hy hl0 hpg
  have KEEP : i_Rel (k + 3) (kT, kF, kN, kA, kB, kC, sH, sN, sE, nl, cl, hl, doc, nod, chr, cho, mea, sc, ph, pw, rc, dep, dN, dC, dH, dM, nK, nV, nZ, nS, pl, mH, mW, mL, mR, cH, cW, cL, cR, lE, rN, rR, rC, st, tN, tB, tS) (vn, vN, vC, vH, vl, vh, vp, vf, vg, bk, ba, bc, bo, bh, bb, bf, bs) := zz_mk hp hx hy hl0 hpg
  have hp' := hp
  obtain ⟨hN8, hN40, hC64, hH6, q1, q2, q3, hok, hχ⟩ := hp'
  have hlen := ds_len_sz ds
  obtain ⟨e1, e2, e3, e4, e5, e6, e7, e8, gX, plX⟩ := id hx
  obtain ⟨y1, y2, y3, y4, gY, bcY⟩ := id hy
  by_cases b0 : 2 ≤ ds.length
  case neg =>
    subst e4 y1
    unfold wpX_beside wpX_join wpY_beside
    refine xq_few (d := ds.length) (p := 2) (by omega) (by omega) (br_f (by decide) ?_)
    exact yb_few (need := 2) hok gY (by omega) (by omega) (by omega) ⟨rfl, KEEP⟩
  obtain ⟨b, Lb, a, La, r, rfl⟩ : ∃ b Lb a La r, ds = (b, Lb) :: (a, La) :: r := by
    cases ds with
    | nil => simp at b0
    | cons p ds =>
      cases ds with
      | nil => simp at b0
      | cons q r => exact ⟨p.1, p.2, q.1, q.2, r, rfl⟩
  have es : ds_sz ((b, Lb) :: (a, La) :: r) = ds_sz r + tr_sz a + tr_sz b := rfl
  have en : ds_nc ((b, Lb) :: (a, La) :: r) = ds_nc r + tr_nc a + tr_nc b := rfl
  have ec : ds_cc ((b, Lb) :: (a, La) :: r) = ds_cc r + tr_cc a + tr_cc b := rfl
  have el : ((b, Lb) :: (a, La) :: r).length = r.length + 1 + 1 := rfl
  have hza := tr_sz_pos a
  have hzb := tr_sz_pos b
  have gYb : ry_nd bk ba b (ds_sz r + tr_sz a) := gY.2
  have gYa : ry_nd bk ba a (ds_sz r) := gY.1.2
  by_cases b1 : ds_sz ((b, Lb) :: (a, La) :: r) + 1 ≤ N
  case neg =>
    subst e1 e4 e5 y1 y2
    unfold wpX_beside wpX_join wpY_beside
    refine xq_full (d := r.length + 1 + 1) (p := 2) (s := ds_sz ((b, Lb) :: (a, La) :: r)) (N := N) (by omega) (by omega) (by omega) (by omega) (br_f (by decide) ?_)
    exact yb_full (need := 2) hok gY (by omega) (by omega) (by omega) ⟨rfl, KEEP⟩
  refine xp_beside hp hx b1 ?_
  intro Q doc nod chr cho mea sc dN dC dH dM nK nV nZ nS pl mH mW mL mR cH cW cL cR hok' hx'
  have es' : ds_sz ((b, Lb) :: (a, La) :: r) = ds_sz r + (tr_sz a + tr_sz b) := by omega
  subst y1 y2
  unfold wpY_beside
  refine yb_ok (kd := 3) (need := 2) hok gY b1 hN40 (by omega) (by omega) ⟨rfl, ?_⟩
  refine zz_fd (ds := (.add a b, Q) :: r) ⟨hN8, hN40, hC64, hH6, ?_, ?_, ?_, hok', hχ⟩ hx' ⟨congrArg nI ?_, rfl, y3, y4, ry_push hok.1.1 gY.1.1 (fun j hj => ry_un (by omega)) ?_, fun i hi => bcY i ?_⟩ hl0
  · simp only [ds_sz, tr_sz]; omega
  · simp only [ds_nc, tr_nc]; omega
  · simp only [ds_cc, tr_cc]; omega
  · simp only [ds_sz, tr_sz]; omega
  · rw [es']
    exact ⟨ry_nd_c0 (t := a) hok.1.2.1 (fun j h1 h2 => ry_un (by omega)) gYa, ry_nd_c0 (t := b) hok.2.1 (fun j h1 h2 => ry_un (by omega)) gYb, pk_us⟩
  · simp only [ds_nc, tr_nc] at hi; omega
theorem i_vc_above {k : Nat} {u : SX} {v : SY} (I : i_Rel k u v) (hk : k + 3 ≤ 1539) : wpX_above (fun r u' => wpY_above (fun r' v' => r' = r ∧ i_Rel (k + 3) u' v') v) u := by
  refine zz_el (P := fun u v => wpX_above (fun r u' => wpY_above (fun r' v' => r' = r ∧ i_Rel (k + 3) u' v') v) u) ?_ I
  intro kT kF kN kA kB kC sH sN sE nl cl hl doc nod chr cho mea sc ph pw rc dep dN dC dH dM nK nV nZ nS pl mH mW mL mR cH cW cL cR lE rN rR rC st tN tB tS vn vN vC vH vl vh vp vf vg bk ba bc bo bh bb bf bs N C H χ ds hp hx hy hl0 hpg
  have KEEP : i_Rel (k + 3) (kT, kF, kN, kA, kB, kC, sH, sN, sE, nl, cl, hl, doc, nod, chr, cho, mea, sc, ph, pw, rc, dep, dN, dC, dH, dM, nK, nV, nZ, nS, pl, mH, mW, mL, mR, cH, cW, cL, cR, lE, rN, rR, rC, st, tN, tB, tS) (vn, vN, vC, vH, vl, vh, vp, vf, vg, bk, ba, bc, bo, bh, bb, bf, bs) := zz_mk hp hx hy hl0 hpg
  have hp' := hp
  obtain ⟨hN8, hN40, hC64, hH6, q1, q2, q3, hok, hχ⟩ := hp'
  have hlen := ds_len_sz ds
  obtain ⟨e1, e2, e3, e4, e5, e6, e7, e8, gX, plX⟩ := id hx
  obtain ⟨y1, y2, y3, y4, gY, bcY⟩ := id hy
  by_cases b0 : 2 ≤ ds.length
  case neg =>
    subst e4 y1
    unfold wpX_above wpX_join wpY_above
    refine xq_few (d := ds.length) (p := 2) (by omega) (by omega) (br_f (by decide) ?_)
    exact yb_few (need := 2) hok gY (by omega) (by omega) (by omega) ⟨rfl, KEEP⟩
  obtain ⟨b, Lb, a, La, r, rfl⟩ : ∃ b Lb a La r, ds = (b, Lb) :: (a, La) :: r := by
    cases ds with
    | nil => simp at b0
    | cons p ds =>
      cases ds with
      | nil => simp at b0
      | cons q r => exact ⟨p.1, p.2, q.1, q.2, r, rfl⟩
  have es : ds_sz ((b, Lb) :: (a, La) :: r) = ds_sz r + tr_sz a + tr_sz b := rfl
  have en : ds_nc ((b, Lb) :: (a, La) :: r) = ds_nc r + tr_nc a + tr_nc b := rfl
  have ec : ds_cc ((b, Lb) :: (a, La) :: r) = ds_cc r + tr_cc a + tr_cc b := rfl
  have el : ((b, Lb) :: (a, La) :: r).length = r.length + 1 + 1 := rfl
  have hza := tr_sz_pos a
  have hzb := tr_sz_pos b
  have gYb : ry_nd bk ba b (ds_sz r + tr_sz a) := gY.2
  have gYa : ry_nd bk ba a (ds_sz r) := gY.1.2
  by_cases b1 : ds_sz ((b, Lb) :: (a, La) :: r) + 1 ≤ N
  case neg =>
    subst e1 e4 e5 y1 y2
    unfold wpX_above wpX_join wpY_above
    refine xq_full (d := r.length + 1 + 1) (p := 2) (s := ds_sz ((b, Lb) :: (a, La) :: r)) (N := N) (by omega) (by omega) (by omega) (by omega) (br_f (by decide) ?_)
    exact yb_full (need := 2) hok gY (by omega) (by omega) (by omega) ⟨rfl, KEEP⟩
  refine xp_above hp hx b1 ?_
  intro Q doc nod chr cho mea sc dN dC dH dM nK nV nZ nS pl mH mW mL mR cH cW cL cR hok' hx'
  have es' : ds_sz ((b, Lb) :: (a, La) :: r) = ds_sz r + (tr_sz a + tr_sz b) := by omega
  subst y1 y2
  unfold wpY_above
  refine yb_ok (kd := 4) (need := 2) hok gY b1 hN40 (by omega) (by omega) ⟨rfl, ?_⟩
  refine zz_fd (ds := (.sub a b, Q) :: r) ⟨hN8, hN40, hC64, hH6, ?_, ?_, ?_, hok', hχ⟩ hx' ⟨congrArg nI ?_, rfl, y3, y4, ry_push hok.1.1 gY.1.1 (fun j hj => ry_un (by omega)) ?_, fun i hi => bcY i ?_⟩ hl0
  · simp only [ds_sz, tr_sz]; omega
  · simp only [ds_nc, tr_nc]; omega
  · simp only [ds_cc, tr_cc]; omega
  · simp only [ds_sz, tr_sz]; omega
  · rw [es']
    exact ⟨ry_nd_c0 (t := a) hok.1.2.1 (fun j h1 h2 => ry_un (by omega)) gYa, ry_nd_c0 (t := b) hok.2.1 (fun j h1 h2 => ry_un (by omega)) gYb, pk_us⟩
  · simp only [ds_nc, tr_nc] at hi; omega
theorem i_vc_choice {k : Nat} {u : SX} {v : SY} (I : i_Rel k u v) (hk : k + 3 ≤ 1539) : wpX_choice (fun r u' => wpY_choice (fun r' v' => r' = r ∧ i_Rel (k + 3) u' v') v) u := by
  refine zz_el (P := fun u v => wpX_choice (fun r u' => wpY_choice (fun r' v' => r' = r ∧ i_Rel (k + 3) u' v') v) u) ?_ I
  intro kT kF kN kA kB kC sH sN sE nl cl hl doc nod chr cho mea sc ph pw rc dep dN dC dH dM nK nV nZ nS pl mH mW mL mR cH cW cL cR lE rN rR rC st tN tB tS vn vN vC vH vl vh vp vf vg bk ba bc bo bh bb bf bs N C H χ ds hp hx hy hl0 hpg
  have KEEP : i_Rel (k + 3) (kT, kF, kN, kA, kB, kC, sH, sN, sE, nl, cl, hl, doc, nod, chr, cho, mea, sc, ph, pw, rc, dep, dN, dC, dH, dM, nK, nV, nZ, nS, pl, mH, mW, mL, mR, cH, cW, cL, cR, lE, rN, rR, rC, st, tN, tB, tS) (vn, vN, vC, vH, vl, vh, vp, vf, vg, bk, ba, bc, bo, bh, bb, bf, bs) := zz_mk hp hx hy hl0 hpg
  have hp' := hp
  obtain ⟨hN8, hN40, hC64, hH6, q1, q2, q3, hok, hχ⟩ := hp'
  have hlen := ds_len_sz ds
  obtain ⟨e1, e2, e3, e4, e5, e6, e7, e8, gX, plX⟩ := id hx
  obtain ⟨y1, y2, y3, y4, gY, bcY⟩ := id hy
  by_cases b0 : 2 ≤ ds.length
  case neg =>
    subst e4 y1
    unfold wpX_choice wpY_choice
    refine xq_few (d := ds.length) (p := 2) (by omega) (by omega) (br_f (by decide) ?_)
    exact yb_few (need := 2) hok gY (by omega) (by omega) (by omega) ⟨rfl, KEEP⟩
  obtain ⟨b, Lb, a, La, r, rfl⟩ : ∃ b Lb a La r, ds = (b, Lb) :: (a, La) :: r := by
    cases ds with
    | nil => simp at b0
    | cons p ds =>
      cases ds with
      | nil => simp at b0
      | cons q r => exact ⟨p.1, p.2, q.1, q.2, r, rfl⟩
  have es : ds_sz ((b, Lb) :: (a, La) :: r) = ds_sz r + tr_sz a + tr_sz b := rfl
  have en : ds_nc ((b, Lb) :: (a, La) :: r) = ds_nc r + tr_nc a + tr_nc b := rfl
  have ec : ds_cc ((b, Lb) :: (a, La) :: r) = ds_cc r + tr_cc a + tr_cc b := rfl
  have el : ((b, Lb) :: (a, La) :: r).length = r.length + 1 + 1 := rfl
  have hza := tr_sz_pos a
  have hzb := tr_sz_pos b
  have gYb : ry_nd bk ba b (ds_sz r + tr_sz a) := gY.2
  have gYa : ry_nd bk ba a (ds_sz r) := gY.1.2
  by_cases b1 : ds_sz ((b, Lb) :: (a, La) :: r) + 1 ≤ N
  case neg =>
    subst e1 e4 e5 y1 y2
    unfold wpX_choice wpY_choice
    refine xq_full (d := r.length + 1 + 1) (p := 2) (s := ds_sz ((b, Lb) :: (a, La) :: r)) (N := N) (by omega) (by omega) (by omega) (by omega) (br_f (by decide) ?_)
    exact yb_full (need := 2) hok gY (by omega) (by omega) (by omega) ⟨rfl, KEEP⟩
  by_cases b2 : ds_cc ((b, Lb) :: (a, La) :: r) + 1 ≤ H
  case neg =>
    subst e1 e3 e4 e5 e7 y1 y2 y4
    unfold wpX_choice wpY_choice
    refine xq_ok (d := r.length + 1 + 1) (p := 2) (s := ds_sz ((b, Lb) :: (a, La) :: r)) (N := N) (by omega) (by omega) (by omega) (by omega) (br_t rfl (br_f (by rw [nI_1]; exact nI_ge (by omega) (by omega)) ?_))
    exact yb_c0 (need := 2) hok gY b1 hN40 (by omega) (by omega) (by omega) ⟨rfl, KEEP⟩
  refine xp_choice hp hx b1 b2 ?_
  intro Q doc nod chr cho mea sc dN dC dH dM nK nV nZ nS pl mH mW mL mR cH cW cL cR hok' hx'
  have es' : ds_sz ((b, Lb) :: (a, La) :: r) = ds_sz r + (tr_sz a + tr_sz b) := by omega
  subst y1 y2 y4
  unfold wpY_choice
  refine yb_c1 (need := 2) hok gY b1 hN40 (by omega) b2 hH6 ⟨rfl, ?_⟩
  refine zz_fd (ds := (.mul a b, Q) :: r) ⟨hN8, hN40, hC64, hH6, ?_, ?_, ?_, hok', hχ⟩ hx' ⟨congrArg nI ?_, rfl, y3, rfl, ry_push hok.1.1 gY.1.1 (fun j hj => ry_un (by omega)) ?_, fun i hi => bcY i ?_⟩ hl0
  · simp only [ds_sz, tr_sz]; omega
  · simp only [ds_nc, tr_nc]; omega
  · simp only [ds_cc, tr_cc]; omega
  · simp only [ds_sz, tr_sz]; omega
  · rw [es']
    exact ⟨ry_nd_c0 (t := a) hok.1.2.1 (fun j h1 h2 => ry_un (by omega)) gYa, ry_nd_c0 (t := b) hok.2.1 (fun j h1 h2 => ry_un (by omega)) gYb, pk_us⟩
  · simp only [ds_nc, tr_nc] at hi; omega
theorem i_vc_copy {k : Nat} {u : SX} {v : SY} (I : i_Rel k u v) (hk : k + 3 ≤ 1539) : wpX_copy (fun r u' => wpY_copy (fun r' v' => r' = r ∧ i_Rel (k + 3) u' v') v) u := by
  refine zz_el (P := fun u v => wpX_copy (fun r u' => wpY_copy (fun r' v' => r' = r ∧ i_Rel (k + 3) u' v') v) u) ?_ I
  intro kT kF kN kA kB kC sH sN sE nl cl hl doc nod chr cho mea sc ph pw rc dep dN dC dH dM nK nV nZ nS pl mH mW mL mR cH cW cL cR lE rN rR rC st tN tB tS vn vN vC vH vl vh vp vf vg bk ba bc bo bh bb bf bs N C H χ ds hp hx hy hl0 hpg
  have KEEP : i_Rel (k + 3) (kT, kF, kN, kA, kB, kC, sH, sN, sE, nl, cl, hl, doc, nod, chr, cho, mea, sc, ph, pw, rc, dep, dN, dC, dH, dM, nK, nV, nZ, nS, pl, mH, mW, mL, mR, cH, cW, cL, cR, lE, rN, rR, rC, st, tN, tB, tS) (vn, vN, vC, vH, vl, vh, vp, vf, vg, bk, ba, bc, bo, bh, bb, bf, bs) := zz_mk hp hx hy hl0 hpg
  have hp' := hp
  obtain ⟨hN8, hN40, hC64, hH6, q1, q2, q3, hok, hχ⟩ := hp'
  have hlen := ds_len_sz ds
  obtain ⟨e1, e2, e3, e4, e5, e6, e7, e8, gX, plX⟩ := id hx
  obtain ⟨y1, y2, y3, y4, gY, bcY⟩ := id hy
  cases ds with
  | nil =>
    have z1 : ¬ 1 ≤ doc := by rw [e4]; decide
    have z2 : vn = 0 := y1
    exact br_f z1 (br_t z2 ⟨rfl, KEEP⟩)
  | cons p r =>
    obtain ⟨t, L⟩ := p
    have hz := tr_sz_pos t
    have es : ds_sz ((t, L) :: r) = ds_sz r + tr_sz t := rfl
    have en : ds_nc ((t, L) :: r) = ds_nc r + tr_nc t := rfl
    have ec : ds_cc ((t, L) :: r) = ds_cc r + tr_cc t := rfl
    by_cases bb1 : ds_sz ((t, L) :: r) + tr_sz t ≤ N ∧ ds_nc ((t, L) :: r) + tr_nc t ≤ C ∧ ds_cc ((t, L) :: r) + tr_cc t ≤ H
    · refine xp_copy hp hx bb1.1 bb1.2.1 bb1.2.2 ?_
      intro Q doc nod chr cho mea sc dN dC dH dM nK nV nZ nS pl mH mW mL mR cH cW cL cR hok' hx'
      refine yp_copy hp hy (fun z => absurd bb1 z) ?_
      intro _ _ _ Q' vn bk ba bc hy'
      refine ⟨rfl, zz_fd (ds := (t, Q) :: (t, L) :: r) ⟨hN8, hN40, hC64, hH6, bb1.1, bb1.2.1, bb1.2.2, hok', fun i => ?_⟩ hx' hy' hl0⟩
      try dsimp only
      by_cases z : i < ds_nc r + tr_nc t
      · rw [if_pos z]; exact hχ i
      · rw [if_neg z]; exact hχ _
    · have YY : wpY_copy (fun r' v' => r' = -5 ∧ i_Rel (k + 3) (kT, kF, kN, kA, kB, kC, sH, sN, sE, nl, cl, hl, doc, nod, chr, cho, mea, sc, ph, pw, rc, dep, dN, dC, dH, dM, nK, nV, nZ, nS, pl, mH, mW, mL, mR, cH, cW, cL, cR, lE, rN, rR, rC, st, tN, tB, tS) v') (vn, vN, vC, vH, vl, vh, vp, vf, vg, bk, ba, bc, bo, bh, bb, bf, bs) := yp_copy hp hy (fun _ => ⟨rfl, KEEP⟩) (fun z1 z2 z3 => absurd ⟨z1, z2, z3⟩ bb1)
      obtain ⟨g, ga, gn, gm⟩ := id gX
      obtain ⟨f1, f2, f3, f4⟩ := rx_ds_end g
      have c0 : (nI r.length).toNatClampNeg = r.length := nI_clamp (by simp only [List.length_cons] at hlen; omega)
      have hin : vp_in (nI r.length) 41 := vp_in_nI (by simp only [List.length_cons] at hlen; omega) (by omega)
      simp only [List.length_cons] at e4 hlen
      subst e1 e2 e3 e4 e5 e6 e7
      refine br_t (nI_le (a := 1) (by omega) (by omega)) <| nm_r (nI_pred _) <| And.intro hin <| nm_r (e' := nI (tr_sz t)) (by rw [c0, f1, pk_sub (by omega)]; exact congrArg nI (by omega)) <|
        And.intro hin <| nm_r (e' := nI (tr_nc t)) (by rw [c0, f2, pk_sub (by omega)]; exact congrArg nI (by omega)) <| And.intro hin <| nm_r (e' := nI (tr_cc t)) (by rw [c0, f3, pk_sub (by omega)]; exact congrArg nI (by omega)) ?_
      rw [nI_add, nI_add, nI_add, nI_ltI (by omega) (by omega), nI_ltI (by omega) (by omega), nI_leI (by omega) (by omega)]
      exact br_c (fun _ => YY) (fun c1 => br_c (fun _ => YY) (fun c2 => br_c (fun c3 => absurd bb1 (by omega)) (fun _ => YY)))
theorem i_vc_drop {k : Nat} {u : SX} {v : SY} (I : i_Rel k u v) (hk : k + 3 ≤ 1539) : wpX_drop (fun r u' => wpY_drop (fun r' v' => r' = r ∧ i_Rel (k + 3) u' v') v) u := by
  refine zz_el (P := fun u v => wpX_drop (fun r u' => wpY_drop (fun r' v' => r' = r ∧ i_Rel (k + 3) u' v') v) u) ?_ I
  intro kT kF kN kA kB kC sH sN sE nl cl hl doc nod chr cho mea sc ph pw rc dep dN dC dH dM nK nV nZ nS pl mH mW mL mR cH cW cL cR lE rN rR rC st tN tB tS vn vN vC vH vl vh vp vf vg bk ba bc bo bh bb bf bs N C H χ ds hp hx hy hl0 hpg
  have KEEP : i_Rel (k + 3) (kT, kF, kN, kA, kB, kC, sH, sN, sE, nl, cl, hl, doc, nod, chr, cho, mea, sc, ph, pw, rc, dep, dN, dC, dH, dM, nK, nV, nZ, nS, pl, mH, mW, mL, mR, cH, cW, cL, cR, lE, rN, rR, rC, st, tN, tB, tS) (vn, vN, vC, vH, vl, vh, vp, vf, vg, bk, ba, bc, bo, bh, bb, bf, bs) := zz_mk hp hx hy hl0 hpg
  have hp' := hp
  obtain ⟨hN8, hN40, hC64, hH6, q1, q2, q3, hok, hχ⟩ := hp'
  have hlen := ds_len_sz ds
  obtain ⟨e1, e2, e3, e4, e5, e6, e7, e8, gX, plX⟩ := id hx
  obtain ⟨y1, y2, y3, y4, gY, bcY⟩ := id hy
  cases ds with
  | nil =>
    have z1 : ¬ 1 ≤ doc := by rw [e4]; decide
    have z2 : vn = 0 := y1
    exact br_f z1 (br_t z2 ⟨rfl, KEEP⟩)
  | cons p r =>
    refine xp_drop hp hx ?_
    intro doc nod chr cho mea sc dN dC dH dM nK nV nZ nS pl mH mW mL mR cH cW cL cR hx'
    refine yp_drop hp hy ?_
    intro vn bk ba bc hy'
    simp only [ds_sz, ds_nc, ds_cc] at q1 q2 q3
    exact ⟨rfl, zz_fd (ds := r) ⟨hN8, hN40, hC64, hH6, by omega, by omega, by omega, hok.1, hχ⟩ hx' hy' hl0⟩
end
section
/-! lines of a page -/
theorem ls_at {S : List Nat} {j k col : Nat} (h1 : j + k ≤ S.length) (h3 : (sg_ms (S.take j)).2.2 = 0) (h4 : (sg_ms (S.take (j + k))).1 = (sg_ms (S.take j)).1) (h5 : (sg_ms (S.take (j + k))).2.2 = k) (hc : col < k) :
    ∃ x, S[j + col]? = some x ∧ x ≠ 10 ∧ (sg_ms (S.take (j + col))).1 = (sg_ms (S.take j)).1 ∧ (sg_ms (S.take (j + col))).2.2 = col := by
  have sp : ∀ a b, (S.take (a + b)) = S.take a ++ (S.drop a).take b := fun a b => List.take_add
  have x : S[j + col]? = some S[j + col] := List.getElem?_eq_getElem (by omega)
  have u1 := cu_lt ((S.drop j).take col) (S.take j)
  rw [← sp] at u1
  have u2 := cu_lt ((S.drop (j + col)).take (k - col)) (S.take (j + col))
  rw [← sp, show j + col + (k - col) = j + k by omega] at u2
  have l1 : ((S.drop j).take col).length = col := by rw [List.length_take, List.length_drop]; omega
  rw [l1] at u1
  refine ⟨_, x, ?_, by omega, by omega⟩
  intro e
  rw [e] at x
  have n := cu_n (S := S.take (j + k)) (i := j + col) (by rw [List.getElem?_take_of_lt (by omega)]; exact x)
  rw [List.take_take, Nat.min_eq_left (by omega)] at n
  omega
theorem ls_uq {S : List Nat} {a b : Nat} (ha : a ≤ S.length) (hb : b ≤ S.length) (h : (sg_ms (S.take a)).1 = (sg_ms (S.take b)).1) (h1 : (sg_ms (S.take a)).2.2 = 0) (h2 : (sg_ms (S.take b)).2.2 = 0) : a = b := by
  have key : ∀ a b, a ≤ b → b ≤ S.length → (sg_ms (S.take a)).1 = (sg_ms (S.take b)).1 → (sg_ms (S.take a)).2.2 = 0 → (sg_ms (S.take b)).2.2 = 0 → a = b := by
    intro a b hab hb h h1 h2
    have u := cu_lt ((S.drop a).take (b - a)) (S.take a)
    rw [← List.take_add, show a + (b - a) = b by omega] at u
    have l1 : ((S.drop a).take (b - a)).length = b - a := by rw [List.length_take, List.length_drop]; omega
    rw [l1] at u
    have := u.2 h
    omega
  rcases Nat.le_total a b with q | q
  · exact key a b q hb h h1 h2
  · exact (key b a q ha h.symm h2 h1).symm
/-- each row of a page has a line -/
theorem yl_ex {S : List Nat} {ρ : Nat} (hρ : ρ < (sg_ms S).1) : ∃ j0 kk, j0 + kk ≤ S.length ∧ nI ρ = nI ((sg_ms (S.take j0)).1 - 1) ∧ (sg_ms (S.take j0)).2.2 = 0 ∧ (sg_ms (S.take (j0 + kk))).1 = (sg_ms (S.take j0)).1 ∧ (sg_ms (S.take (j0 + kk))).2.2 = kk ∧ (j0 + kk = S.length ∨ S[j0 + kk]? = some 10) := by
  -- a line start
  have A : ∀ d j, j + d = S.length → (sg_ms (S.take j)).1 ≤ ρ → ∃ j0, j0 ≤ S.length ∧ (sg_ms (S.take j0)).1 = ρ + 1 ∧ (sg_ms (S.take j0)).2.2 = 0 := by
    intro d
    induction d with
    | zero =>
      intro j hj h
      rw [List.take_of_length_le (by omega)] at h
      omega
    | succ d ih =>
      intro j hj h
      have hx : S[j]? = some S[j] := List.getElem?_eq_getElem (by omega)
      have ts := tk_s hx
      by_cases h10 : S[j] = 10
      · rw [h10] at ts
        have m := sg_ms_n (S.take j)
        rw [← ts] at m
        by_cases q : (sg_ms (S.take j)).1 = ρ
        · exact ⟨j + 1, by omega, by omega, m.2⟩
        · exact ih (j + 1) (by omega) (by omega)
      · have m := sg_ms_ne (S.take j) [S[j]] (by intro d hd; rw [List.mem_singleton.mp hd]; exact h10)
        rw [← ts] at m
        exact ih (j + 1) (by omega) (by omega)
  obtain ⟨j0, b0, b1, b2⟩ : ∃ j0, j0 ≤ S.length ∧ (sg_ms (S.take j0)).1 = ρ + 1 ∧ (sg_ms (S.take j0)).2.2 = 0 := by
    by_cases z : ρ = 0
    · subst z; exact ⟨0, Nat.zero_le _, rfl, rfl⟩
    · exact A S.length 0 (Nat.zero_add _) (by show 1 ≤ ρ; omega)
  -- its end
  have B : ∀ d k, j0 + k + d = S.length → (sg_ms (S.take (j0 + k))).1 = (sg_ms (S.take j0)).1 → (sg_ms (S.take (j0 + k))).2.2 = k → ∃ kk, j0 + kk ≤ S.length ∧ (sg_ms (S.take (j0 + kk))).1 = (sg_ms (S.take j0)).1 ∧ (sg_ms (S.take (j0 + kk))).2.2 = kk ∧ (j0 + kk = S.length ∨ S[j0 + kk]? = some 10) := by
    intro d
    induction d with
    | zero => intro k hk h1 h2; exact ⟨k, by omega, h1, h2, Or.inl (by omega)⟩
    | succ d ih =>
      intro k hk h1 h2
      have hx : S[j0 + k]? = some S[j0 + k] := List.getElem?_eq_getElem (by omega)
      by_cases h10 : S[j0 + k] = 10
      · rw [h10] at hx; exact ⟨k, by omega, h1, h2, Or.inr hx⟩
      · have ts := tk_s hx
        have m := sg_ms_ne (S.take (j0 + k)) [S[j0 + k]] (by intro d hd; rw [List.mem_singleton.mp hd]; exact h10)
        rw [← ts, List.length_singleton] at m
        exact ih (k + 1) (by omega) (m.1.trans h1) (by rw [← Nat.add_assoc]; omega)
  obtain ⟨kk, k1, k2, k3, k4⟩ := B (S.length - j0) 0 (by omega) rfl b2
  exact ⟨j0, kk, k1, congrArg nI (by omega), b2, k2, k3, k4⟩
theorem i_vc_layout {k : Nat} {u : SX} {v : SY} (I : i_Rel k u v) (hk : k + 3 ≤ 1539) (v1 : Int32) (v2 : Int32) : wpX_layout (fun r u' => wpY_layout (fun r' v' => r' = r ∧ i_Rel (k + 3) u' v') v v1 v2) u v1 v2 := by
  refine zz_el (P := fun u v => wpX_layout (fun r u' => wpY_layout (fun r' v' => r' = r ∧ i_Rel (k + 3) u' v') v v1 v2) u v1 v2) ?_ I
  intro kT kF kN kA kB kC sH sN sE nl cl hl doc nod chr cho mea sc ph pw rc dep dN dC dH dM nK nV nZ nS pl mH mW mL mR cH cW cL cR lE rN rR rC st tN tB tS vn vN vC vH vl vh vp vf vg bk ba bc bo bh bb bf bs N C H χ ds hp hx hy hl0 hpg
  have KEEP : i_Rel (k + 3) (kT, kF, kN, kA, kB, kC, sH, sN, sE, nl, cl, hl, doc, nod, chr, cho, mea, sc, ph, pw, rc, dep, dN, dC, dH, dM, nK, nV, nZ, nS, pl, mH, mW, mL, mR, cH, cW, cL, cR, lE, rN, rR, rC, st, tN, tB, tS) (vn, vN, vC, vH, vl, vh, vp, vf, vg, bk, ba, bc, bo, bh, bb, bf, bs) := zz_mk hp hx hy hl0 hpg
  have hp' := hp
  obtain ⟨hN8, hN40, hC64, hH6, q1, q2, q3, hok, hχ⟩ := hp'
  have hlen := ds_len_sz ds
  obtain ⟨e1, e2, e3, e4, e5, e6, e7, e8, gX, plX⟩ := id hx
  obtain ⟨y1, y2, y3, y4, gY, bcY⟩ := id hy
  by_cases a1 : v1 < 0
  · exact br_t a1 (br_t a1 ⟨rfl, KEEP⟩)
  by_cases a2 : v2 < 0
  · exact br_f a1 (br_t a2 (br_f a1 (br_t a2 ⟨rfl, KEEP⟩)))
  by_cases a3 : v2 ≤ 255
  case neg => exact br_f a1 (br_f a2 (br_f a3 (br_f a1 (br_f a2 (br_f a3 ⟨rfl, KEEP⟩)))))
  obtain ⟨page, hpage, rfl⟩ := nI_of2 (M := 255) (n := 255) (by decide) a2 a3
  obtain ⟨place, hplace, rfl⟩ := nI_of a1
  by_cases b1 : place < ds.length
  case neg =>
    subst e4 y1
    refine br_f a1 <| br_f a2 <| br_t a3 <| br_f (nI_nlt (by omega) hplace) ?_
    exact br_f a1 <| br_f a2 <| br_t a3 <| yd_all hok gY (by omega) <| br_f (nI_nlt (by omega) hplace) ⟨rfl, KEEP⟩
  obtain ⟨top, t, L, r, eds, etop⟩ : ∃ (top : ds_D) (t : tr_T) (L : List mt_M) (r : ds_D), ds = top ++ (t, L) :: r ∧ top.length = place := by
    refine ⟨ds.take place, ds[place].1, ds[place].2, ds.drop (place + 1), ?_, by rw [List.length_take]; omega⟩
    rw [show (ds[place].1, ds[place].2) = ds[place] from rfl, List.getElem_cons_drop, List.take_append_drop]
  subst eds etop
  have hle := ds_le_split top ((t, L) :: r)
  have es : ds_sz ((t, L) :: r) = ds_sz r + tr_sz t := rfl
  have en : ds_nc ((t, L) :: r) = ds_nc r + tr_nc t := rfl
  have ec : ds_cc ((t, L) :: r) = ds_cc r + tr_cc t := rfl
  have hok1 : ds_ok r ∧ tr_ok t ∧ fo_FR t (ds_cc r) L := ds_ok_split top _ hok
  have hχ10 : ∀ i, χ i ≠ 10 := fun i => by have := hχ i; omega
  refine xp_layout hp hx hpage ?_
  intro m R pw ph rc dep lE rN rR rC st tN tB tS hm hmin hms hpx
  refine yp_layout hpage hp hy ?_
  intro kk vl' vh' bo' bh' bb' bf' bs' hkk hkmin hvl' hbo' hys'
  obtain ⟨erk, est⟩ := bt_same hok1.2.1 hok1.2.2 hm hmin hkk hkmin
  obtain ⟨em, eS⟩ := est χ (fun j => m.2.2.2.testBit j) (ds_nc r) (fun j _ _ => rfl)
  have hmsY := tr_str_ms χ (fun j => kk.testBit j) hχ10 t hok1.2.1 (ds_nc r) 0
  have hw : (bt_mk t kk).2.1 = m.2.1 := by
    rw [← eS, hms] at hmsY
    exact (congrArg (fun q : Nat × Nat × Nat => q.2.1) hmsY).symm
  have hlS := tr_str_len χ (fun j => m.2.2.2.testBit j) hχ10 t hok1.2.1 (ds_nc r) (ds_cc r) (by omega) (by omega)
  have hcS := tr_str_ch χ (fun j => m.2.2.2.testBit j) hχ t hok1.2.1 (ds_nc r) (ds_cc r)
  rw [← eS] at hvl' hbo'
  have hbit : ∀ j, m.2.2.2.testBit (ds_cc r + j) = kk.testBit j := by
    intro j
    rw [erk, Nat.testBit_two_pow_mul, decide_eq_true (by omega : ds_cc r + j ≥ ds_cc r), Bool.true_and, Nat.add_sub_cancel_left]
  have hysX : ys_at bs' (tr_sf (fun j => m.2.2.2.testBit j) t (ds_cc r)) t (ds_sz r) (ds_cc r) := by
    have z := ys_sh (e := ds_cc r) (F' := tr_sf (fun j => m.2.2.2.testBit j) t (ds_cc r)) t hok1.2.1 (ds_sz r) 0 (fun j _ _ => by
      have w := tr_sf_sh (ds_cc r) (fun j => m.2.2.2.testBit j) (fun j => kk.testBit j) t hok1.2.1 0 (fun j _ _ => hbit j) j
      rw [Nat.add_zero] at w; exact w) hys'
    rw [Nat.add_zero] at z; exact z
  refine ⟨by rw [hw], ?_⟩
  exact zz_mk hp hx hy ⟨_, by omega, hvl'⟩ (Or.inr ⟨top, r, t, L, _, R, _, rfl, hpx, rfl, hvl', hbo', by omega, hcS, hysX, rfl, rfl⟩)
theorem i_vc_height {k : Nat} {u : SX} {v : SY} (I : i_Rel k u v) (hk : k + 3 ≤ 1539) : wpX_height (fun r => wpY_height (fun r' => r' = r ∧ i_Rel (k + 3) u v) v) u := by
  refine zz_el (P := fun u v => wpX_height (fun r => wpY_height (fun r' => r' = r ∧ i_Rel (k + 3) u v) v) u) ?_ I
  intro kT kF kN kA kB kC sH sN sE nl cl hl doc nod chr cho mea sc ph pw rc dep dN dC dH dM nK nV nZ nS pl mH mW mL mR cH cW cL cR lE rN rR rC st tN tB tS vn vN vC vH vl vh vp vf vg bk ba bc bo bh bb bf bs N C H χ ds hp hx hy hl0 hpg
  have KEEP : i_Rel (k + 3) (kT, kF, kN, kA, kB, kC, sH, sN, sE, nl, cl, hl, doc, nod, chr, cho, mea, sc, ph, pw, rc, dep, dN, dC, dH, dM, nK, nV, nZ, nS, pl, mH, mW, mL, mR, cH, cW, cL, cR, lE, rN, rR, rC, st, tN, tB, tS) (vn, vN, vC, vH, vl, vh, vp, vf, vg, bk, ba, bc, bo, bh, bb, bf, bs) := zz_mk hp hx hy hl0 hpg
  rcases hpg with ⟨hph, hvp⟩ | ⟨top, r, t, L, S, R, F, eds, ⟨pP, eph, epw, erc, pR, b40, bR, bw, pst⟩, hvp, hvl, hbo, bS, cS, hys, hvf, hvg⟩
  · subst hph hvp
    exact br_t (by decide) (br_t rfl ⟨rfl, KEEP⟩)
  · have g := cu_ge S
    have z : ¬ ph ≤ 0 := by rw [eph]; exact nI_nle (by omega) (by omega)
    have z2 : ¬ vp = 0 := by rw [hvp]; decide
    exact br_f z (br_f z2 (yj_all hvl bS (fun c hc => by have := cS c hc; omega) hbo ⟨eph.symm, KEEP⟩))
theorem i_vc_width {k : Nat} {u : SX} {v : SY} (I : i_Rel k u v) (hk : k + 3 ≤ 1539) : wpX_width (fun r => wpY_width (fun r' => r' = r ∧ i_Rel (k + 3) u v) v) u := by
  refine zz_el (P := fun u v => wpX_width (fun r => wpY_width (fun r' => r' = r ∧ i_Rel (k + 3) u v) v) u) ?_ I
  intro kT kF kN kA kB kC sH sN sE nl cl hl doc nod chr cho mea sc ph pw rc dep dN dC dH dM nK nV nZ nS pl mH mW mL mR cH cW cL cR lE rN rR rC st tN tB tS vn vN vC vH vl vh vp vf vg bk ba bc bo bh bb bf bs N C H χ ds hp hx hy hl0 hpg
  have KEEP : i_Rel (k + 3) (kT, kF, kN, kA, kB, kC, sH, sN, sE, nl, cl, hl, doc, nod, chr, cho, mea, sc, ph, pw, rc, dep, dN, dC, dH, dM, nK, nV, nZ, nS, pl, mH, mW, mL, mR, cH, cW, cL, cR, lE, rN, rR, rC, st, tN, tB, tS) (vn, vN, vC, vH, vl, vh, vp, vf, vg, bk, ba, bc, bo, bh, bb, bf, bs) := zz_mk hp hx hy hl0 hpg
  rcases hpg with ⟨hph, hvp⟩ | ⟨top, r, t, L, S, R, F, eds, ⟨pP, eph, epw, erc, pR, b40, bR, bw, pst⟩, hvp, hvl, hbo, bS, cS, hys, hvf, hvg⟩
  · subst hph hvp
    exact br_t (by decide) (br_t rfl ⟨rfl, KEEP⟩)
  · have g := cu_ge S
    have z : ¬ ph ≤ 0 := by rw [eph]; exact nI_nle (by omega) (by omega)
    have z2 : ¬ vp = 0 := by rw [hvp]; decide
    exact br_f z (br_f z2 (yi_all hvl bS (fun c hc => by have := cS c hc; omega) hbo ⟨epw.symm, KEEP⟩))
theorem i_vc_lineLength {k : Nat} {u : SX} {v : SY} (I : i_Rel k u v) (hk : k + 3 ≤ 1539) (v1 : Int32) : wpX_lineLength (fun r => wpY_lineLength (fun r' => r' = r ∧ i_Rel (k + 3) u v) v v1) u v1 := by
  refine zz_el (P := fun u v => wpX_lineLength (fun r => wpY_lineLength (fun r' => r' = r ∧ i_Rel (k + 3) u v) v v1) u v1) ?_ I
  intro kT kF kN kA kB kC sH sN sE nl cl hl doc nod chr cho mea sc ph pw rc dep dN dC dH dM nK nV nZ nS pl mH mW mL mR cH cW cL cR lE rN rR rC st tN tB tS vn vN vC vH vl vh vp vf vg bk ba bc bo bh bb bf bs N C H χ ds hp hx hy hl0 hpg
  have KEEP : i_Rel (k + 3) (kT, kF, kN, kA, kB, kC, sH, sN, sE, nl, cl, hl, doc, nod, chr, cho, mea, sc, ph, pw, rc, dep, dN, dC, dH, dM, nK, nV, nZ, nS, pl, mH, mW, mL, mR, cH, cW, cL, cR, lE, rN, rR, rC, st, tN, tB, tS) (vn, vN, vC, vH, vl, vh, vp, vf, vg, bk, ba, bc, bo, bh, bb, bf, bs) := zz_mk hp hx hy hl0 hpg
  rcases hpg with ⟨hph, hvp⟩ | ⟨top, r, t, L, S, R, F, eds, ⟨pP, eph, epw, erc, pR, b40, bR, bw, pst⟩, hvp, hvl, hbo, bS, cS, hys, hvf, hvg⟩
  · subst hph hvp
    obtain ⟨l, hl1, hl2⟩ := hl0
    have Y0 : wpY_lineLength (fun r' => r' = -1 ∧ i_Rel (k + 3) (kT, kF, kN, kA, kB, kC, sH, sN, sE, nl, cl, hl, doc, nod, chr, cho, mea, sc, 0, pw, rc, dep, dN, dC, dH, dM, nK, nV, nZ, nS, pl, mH, mW, mL, mR, cH, cW, cL, cR, lE, rN, rR, rC, st, tN, tB, tS) (vn, vN, vC, vH, vl, vh, 0, vf, vg, bk, ba, bc, bo, bh, bb, bf, bs)) (vn, vN, vC, vH, vl, vh, 0, vf, vg, bk, ba, bc, bo, bh, bb, bf, bs) v1 := by
      unfold wpY_lineLength
      exact yq_anyA hl2 hl1 (fun r => br_t rfl ⟨rfl, KEEP⟩)
    by_cases a1 : v1 < 0
    · exact br_t a1 Y0
    · exact br_f a1 (br_f a1 Y0)
  · have g := cu_ge S
    by_cases a1 : ∃ ρ, ρ < (sg_ms S).1 ∧ v1 = nI ρ
    · obtain ⟨ρ, hρ, rfl⟩ := a1
      have c : (nI ρ).toNatClampNeg = ρ := nI_clamp (by omega)
      refine br_f (nI_pos (by omega)) <| br_t (by rw [eph]; exact nI_lt hρ (by omega)) <| And.intro (vp_in_nI (by omega) (by omega)) ?_
      rw [c]
      refine yr_all hvp hvl bS b40 cS hbo (fun j0 kk h1 h2 h3 h4 h5 h6 => ⟨?_, KEEP⟩) (fun z => absurd rfl (z ρ hρ))
      have u1 := cu_lt (S.drop (j0 + kk)) (S.take (j0 + kk))
      rw [List.take_append_drop] at u1
      have gg := cu_ge (S.take j0)
      have er : ρ = (sg_ms (S.take (j0 + kk))).1 - 1 := by
        have := (nI_eq (by omega) (by omega)).mp h2
        omega
      rw [er]
      rcases h6 with z | z
      · have et : S.take (j0 + kk) = S := List.take_of_length_le (by omega)
        rw [et] at h5 ⊢
        rw [pP.2.2.1 trivial, h5]
      · rw [pP.2.1 _ z, h5]
    · have X1 : ∀ A : Prop, A → (v1 < 0 → A) ∧ (¬ v1 < 0 → ((v1 < ph → (vp_in v1 40 ∧ wpY_lineLength (fun r' => r' = lE v1.toNatClampNeg ∧ i_Rel (k + 3) (kT, kF, kN, kA, kB, kC, sH, sN, sE, nl, cl, hl, doc, nod, chr, cho, mea, sc, ph, pw, rc, dep, dN, dC, dH, dM, nK, nV, nZ, nS, pl, mH, mW, mL, mR, cH, cW, cL, cR, lE, rN, rR, rC, st, tN, tB, tS) (vn, vN, vC, vH, vl, vh, vp, vf, vg, bk, ba, bc, bo, bh, bb, bf, bs)) (vn, vN, vC, vH, vl, vh, vp, vf, vg, bk, ba, bc, bo, bh, bb, bf, bs) v1)) ∧ (¬ v1 < ph → A))) := by
        intro A hA
        refine br_c (fun _ => hA) (fun z => br_f ?_ hA)
        obtain ⟨ρ, h1, rfl⟩ := nI_of z
        rw [eph, nI_ltI h1 (by omega)]
        exact fun q => a1 ⟨ρ, q, rfl⟩
      refine X1 _ ?_
      refine yr_all hvp hvl bS b40 cS hbo (fun j0 kk h1 h2 h3 h4 h5 h6 => ?_) (fun z => ⟨rfl, KEEP⟩)
      have u1 := cu_lt (S.drop j0) (S.take j0)
      rw [List.take_append_drop] at u1
      have gg := cu_ge (S.take j0)
      exact absurd ⟨_, by omega, h2⟩ a1
theorem i_vc_charAt {k : Nat} {u : SX} {v : SY} (I : i_Rel k u v) (hk : k + 3 ≤ 1539) (v1 : Int32) (v2 : Int32) : wpX_charAt (fun r => wpY_charAt (fun r' => r' = r ∧ i_Rel (k + 3) u v) v v1 v2) u v1 v2 := by
  refine zz_el (P := fun u v => wpX_charAt (fun r => wpY_charAt (fun r' => r' = r ∧ i_Rel (k + 3) u v) v v1 v2) u v1 v2) ?_ I
  intro kT kF kN kA kB kC sH sN sE nl cl hl doc nod chr cho mea sc ph pw rc dep dN dC dH dM nK nV nZ nS pl mH mW mL mR cH cW cL cR lE rN rR rC st tN tB tS vn vN vC vH vl vh vp vf vg bk ba bc bo bh bb bf bs N C H χ ds hp hx hy hl0 hpg
  have KEEP : i_Rel (k + 3) (kT, kF, kN, kA, kB, kC, sH, sN, sE, nl, cl, hl, doc, nod, chr, cho, mea, sc, ph, pw, rc, dep, dN, dC, dH, dM, nK, nV, nZ, nS, pl, mH, mW, mL, mR, cH, cW, cL, cR, lE, rN, rR, rC, st, tN, tB, tS) (vn, vN, vC, vH, vl, vh, vp, vf, vg, bk, ba, bc, bo, bh, bb, bf, bs) := zz_mk hp hx hy hl0 hpg
  rcases hpg with ⟨hph, hvp⟩ | ⟨top, r, t, L, S, R, F, eds, ⟨pP, eph, epw, erc, pR, b40, bR, bw, pst⟩, hvp, hvl, hbo, bS, cS, hys, hvf, hvg⟩
  · subst hph hvp
    obtain ⟨l, hl1, hl2⟩ := hl0
    have Y0 : wpY_charAt (fun r' => r' = -1 ∧ i_Rel (k + 3) (kT, kF, kN, kA, kB, kC, sH, sN, sE, nl, cl, hl, doc, nod, chr, cho, mea, sc, 0, pw, rc, dep, dN, dC, dH, dM, nK, nV, nZ, nS, pl, mH, mW, mL, mR, cH, cW, cL, cR, lE, rN, rR, rC, st, tN, tB, tS) (vn, vN, vC, vH, vl, vh, 0, vf, vg, bk, ba, bc, bo, bh, bb, bf, bs)) (vn, vN, vC, vH, vl, vh, 0, vf, vg, bk, ba, bc, bo, bh, bb, bf, bs) v1 v2 := by
      unfold wpY_charAt wpY_lineLength
      exact yq_anyA hl2 hl1 (fun r => br_t rfl (br_t rfl ⟨rfl, KEEP⟩))
    have X0 : ∀ (A B : Prop), A → (v2 < 0 → A) ∧ (¬ v2 < 0 → ((v2 < (-1 : Int32) → B) ∧ (¬ v2 < (-1 : Int32) → A))) := by
      intro A B hA
      exact br_c (fun _ => hA) (fun z => br_f (fun q => z (Int32.lt_trans q (by decide))) hA)
    unfold wpX_charAt
    by_cases a1 : v1 < 0
    · exact br_t a1 (X0 _ _ Y0)
    · exact br_f a1 (br_f a1 (X0 _ _ Y0))
  · have g := cu_ge S
    by_cases a1 : ∃ ρ, ρ < (sg_ms S).1 ∧ v1 = nI ρ
    · obtain ⟨ρ, hρ, rfl⟩ := a1
      have c : (nI ρ).toNatClampNeg = ρ := nI_clamp (by omega)
      -- the line of the row
      have row : ∀ j0 kk, j0 + kk ≤ S.length → nI ρ = nI ((sg_ms (S.take j0)).1 - 1) → (sg_ms (S.take (j0 + kk))).1 = (sg_ms (S.take j0)).1 → (sg_ms (S.take (j0 + kk))).2.2 = kk → (j0 + kk = S.length ∨ S[j0 + kk]? = some 10) → lE ρ = nI kk ∧ ρ = (sg_ms (S.take j0)).1 - 1 := by
        intro j0 kk h1 h2 h4 h5 h6
        have u1 := cu_lt (S.drop (j0 + kk)) (S.take (j0 + kk))
        rw [List.take_append_drop] at u1
        have gg := cu_ge (S.take j0)
        have er : ρ = (sg_ms (S.take (j0 + kk))).1 - 1 := by
          have := (nI_eq (by omega) (by omega)).mp h2
          omega
        refine ⟨?_, by omega⟩
        rw [er]
        rcases h6 with z | z
        · have et : S.take (j0 + kk) = S := List.take_of_length_le (by omega)
          rw [et] at h5 ⊢
          rw [pP.2.2.1 trivial, h5]
        · rw [pP.2.1 _ z, h5]
      unfold wpX_charAt
      refine br_f (nI_pos (by omega)) <| br_t (by rw [eph]; exact nI_lt hρ (by omega)) <| And.intro (vp_in_nI (by omega) (by omega)) ?_
      rw [c]
      by_cases a2 : v2 < 0
      · refine br_t a2 ?_
        unfold wpY_charAt
        exact yr_all hvp hvl bS b40 cS hbo (fun j0 kk h1 h2 h3 h4 h5 h6 => br_f (fun q => absurd (show nI kk < 0 by rw [q]; decide) (nI_pos (by omega))) (br_t a2 ⟨rfl, KEEP⟩)) (fun z => br_t rfl ⟨rfl, KEEP⟩)
      · obtain ⟨col, hcol, rfl⟩ := nI_of a2
        -- the length of the line
        obtain ⟨j0, kk, h1, h2, h3, h4, h5, h6⟩ : ∃ j0 kk, j0 + kk ≤ S.length ∧ nI ρ = nI ((sg_ms (S.take j0)).1 - 1) ∧ (sg_ms (S.take j0)).2.2 = 0 ∧ (sg_ms (S.take (j0 + kk))).1 = (sg_ms (S.take j0)).1 ∧ (sg_ms (S.take (j0 + kk))).2.2 = kk ∧ (j0 + kk = S.length ∨ S[j0 + kk]? = some 10) := yl_ex hρ
        obtain ⟨elE, eρ⟩ := row j0 kk h1 h2 h4 h5 h6
        rw [elE]
        have uq : ∀ j1 kk1, j1 + kk1 ≤ S.length → nI ρ = nI ((sg_ms (S.take j1)).1 - 1) → (sg_ms (S.take (j1 + kk1))).1 = (sg_ms (S.take j1)).1 → (sg_ms (S.take (j1 + kk1))).2.2 = kk1 → (j1 + kk1 = S.length ∨ S[j1 + kk1]? = some 10) → kk1 = kk := by
          intro j1 kk1 g1 g2 g4 g5 g6
          have := (row j1 kk1 g1 g2 g4 g5 g6).1
          rw [elE] at this
          exact ((nI_eq (by omega) (by omega)).mp this).symm
        by_cases b1 : col < kk
        · have hw := bw
          have wk : kk ≤ (sg_ms S).2.1 := by
            have := sg_sc_lw (S.drop (j0 + kk)) (sg_ms (S.take (j0 + kk))).1 (sg_ms (S.take (j0 + kk))).2.1 (sg_ms (S.take (j0 + kk))).2.2 (cu_ge _).2
            have e2 : sg_sc ((sg_ms (S.take (j0 + kk))).1, (sg_ms (S.take (j0 + kk))).2.1, (sg_ms (S.take (j0 + kk))).2.2) (S.drop (j0 + kk)) = sg_ms S := by
              have := sg_ms_app (S.take (j0 + kk)) (S.drop (j0 + kk))
              rw [List.take_append_drop] at this
              exact this.symm
            rw [e2] at this
            have := cu_ge (S.take (j0 + kk))
            omega
          refine br_f a2 <| br_t (nI_lt b1 (by omega)) <| Exists.intro (R.length + 1) ?_
          subst erc
          refine xa_loop (by omega) (by omega) bR R 0 (R.length + 1) pR (Nat.zero_add _) (Nat.lt_succ_self _) ?_
          unfold wpY_charAt
          refine yr_all hvp hvl bS b40 cS hbo (fun j1 kk1 g1 g2 g3 g4 g5 g6 => ?_) (fun z => absurd rfl (z ρ hρ))
          have ek := uq j1 kk1 g1 g2 g4 g5 g6
          subst ek
          refine br_f (fun q => absurd (show nI kk1 < 0 by rw [q]; decide) (nI_pos (by omega))) <| br_f a2 <| br_t (nI_lt b1 (by omega)) ?_
          refine yq_all hvl bS b40 cS hbo (fun j2 k1 k2 k3 => ?_) (fun z => absurd rfl (z ρ hρ))
          have ej : j2 = j1 := ls_uq k1 (by omega) (by rw [k2] at g2; have := (nI_eq (by have := cu_ge (S.take j2); have := cu_lt (S.drop j2) (S.take j2); rw [List.take_append_drop] at this; omega) (by have := cu_ge (S.take j1); have := cu_lt (S.drop j1) (S.take j1); rw [List.take_append_drop] at this; omega)).mp g2; have := cu_ge (S.take j1); have := cu_ge (S.take j2); omega) k3 g3
          subst ej
          obtain ⟨x, hx', hx10, m1, m2⟩ := ls_at (col := col) g1 g3 g4 g5 b1
          have ca : (nI j2 + nI col).toNatClampNeg = j2 + col := by rw [nI_add]; exact nI_clamp (by omega)
          refine And.intro (by rw [nI_add]; exact vp_in_nI (by omega) (by omega)) ?_
          rw [ca]
          have ex := al_get S 0 (j2 + col) x hbo hx'
          rw [Nat.zero_add] at ex
          have lk := pP.1 (j2 + col) x hx' hx10
          rw [m1, m2] at lk
          have gg := cu_ge (S.take j2)
          have er2 : ρ = (sg_ms (S.take j2)).1 - 1 := (row j2 kk1 g1 g2 g4 g5 g6).2
          rw [← er2] at lk
          rw [ex, lk]
          exact ⟨rfl, KEEP⟩
        · refine br_f a2 <| br_f (nI_nlt (by omega) (by omega)) ?_
          unfold wpY_charAt
          refine yr_all hvp hvl bS b40 cS hbo (fun j1 kk1 g1 g2 g3 g4 g5 g6 => ?_) (fun z => absurd rfl (z ρ hρ))
          have ek := uq j1 kk1 g1 g2 g4 g5 g6
          subst ek
          exact br_f (fun q => absurd (show nI kk1 < 0 by rw [q]; decide) (nI_pos (by omega))) <| br_f a2 <| br_f (nI_nlt (by omega) (by omega)) ⟨rfl, KEEP⟩
    · have Y1 : wpY_charAt (fun r' => r' = -1 ∧ i_Rel (k + 3) (kT, kF, kN, kA, kB, kC, sH, sN, sE, nl, cl, hl, doc, nod, chr, cho, mea, sc, ph, pw, rc, dep, dN, dC, dH, dM, nK, nV, nZ, nS, pl, mH, mW, mL, mR, cH, cW, cL, cR, lE, rN, rR, rC, st, tN, tB, tS) (vn, vN, vC, vH, vl, vh, vp, vf, vg, bk, ba, bc, bo, bh, bb, bf, bs)) (vn, vN, vC, vH, vl, vh, vp, vf, vg, bk, ba, bc, bo, bh, bb, bf, bs) v1 v2 := by
        unfold wpY_charAt
        refine yr_all hvp hvl bS b40 cS hbo (fun j0 kk h1 h2 h3 h4 h5 h6 => ?_) (fun z => br_t rfl ⟨rfl, KEEP⟩)
        have u1 := cu_lt (S.drop j0) (S.take j0)
        rw [List.take_append_drop] at u1
        have gg := cu_ge (S.take j0)
        exact absurd ⟨_, by omega, h2⟩ a1
      have X0 : ∀ (A B : Prop), A → (v2 < 0 → A) ∧ (¬ v2 < 0 → ((v2 < (-1 : Int32) → B) ∧ (¬ v2 < (-1 : Int32) → A))) := by
        intro A B hA
        exact br_c (fun _ => hA) (fun z => br_f (fun q => z (Int32.lt_trans q (by decide))) hA)
      unfold wpX_charAt
      by_cases z : v1 < 0
      · exact br_t z (X0 _ _ Y1)
      · refine br_f z (br_f ?_ (X0 _ _ Y1))
        obtain ⟨ρ, h1, rfl⟩ := nI_of z
        rw [eph, nI_ltI h1 (by omega)]
        exact fun q => a1 ⟨ρ, q, rfl⟩
theorem i_vc_taken {k : Nat} {u : SX} {v : SY} (I : i_Rel k u v) (hk : k + 3 ≤ 1539) (v1 : Int32) : wpX_taken (fun r => wpY_taken (fun r' => r' = r ∧ i_Rel (k + 3) u v) v v1) u v1 := by
  refine zz_el (P := fun u v => wpX_taken (fun r => wpY_taken (fun r' => r' = r ∧ i_Rel (k + 3) u v) v v1) u v1) ?_ I
  intro kT kF kN kA kB kC sH sN sE nl cl hl doc nod chr cho mea sc ph pw rc dep dN dC dH dM nK nV nZ nS pl mH mW mL mR cH cW cL cR lE rN rR rC st tN tB tS vn vN vC vH vl vh vp vf vg bk ba bc bo bh bb bf bs N C H χ ds hp hx hy hl0 hpg
  have KEEP : i_Rel (k + 3) (kT, kF, kN, kA, kB, kC, sH, sN, sE, nl, cl, hl, doc, nod, chr, cho, mea, sc, ph, pw, rc, dep, dN, dC, dH, dM, nK, nV, nZ, nS, pl, mH, mW, mL, mR, cH, cW, cL, cR, lE, rN, rR, rC, st, tN, tB, tS) (vn, vN, vC, vH, vl, vh, vp, vf, vg, bk, ba, bc, bo, bh, bb, bf, bs) := zz_mk hp hx hy hl0 hpg
  have hp' := hp
  obtain ⟨hN8, hN40, hC64, hH6, q1, q2, q3, hok, hχ⟩ := hp'
  have hlen := ds_len_sz ds
  obtain ⟨e1, e2, e3, e4, e5, e6, e7, e8, gX, plX⟩ := id hx
  obtain ⟨y1, y2, y3, y4, gY, bcY⟩ := id hy
  rcases hpg with ⟨hph, hvp⟩ | ⟨top, r, t, L, S, R, F, eds, ⟨pP, eph, epw, erc, pR, b40, bR, bw, pst⟩, hvp, hvl, hbo, bS, cS, hys, hvf, hvg⟩
  · subst hph hvp
    exact br_t rfl (br_t rfl ⟨rfl, KEEP⟩)
  · subst eds
    have g := cu_ge S
    have hle := ds_le_split top ((t, L) :: r)
    have ec : ds_cc ((t, L) :: r) = ds_cc r + tr_cc t := rfl
    have z : ¬ ph = 0 := by rw [eph]; exact nI_ne0 (by omega) (by omega)
    have T : ∀ x : Int32, (∀ N, ds_cc r ≤ N → N < ds_cc r + tr_cc t → nI N = v1 → nI (F N) = x) → ((∀ N, ds_cc r ≤ N → N < ds_cc r + tr_cc t → ¬ nI N = v1) → (-1 : Int32) = x) → wpY_taken (fun r' => r' = x ∧ i_Rel (k + 3) (kT, kF, kN, kA, kB, kC, sH, sN, sE, nl, cl, hl, doc, nod, chr, cho, mea, sc, ph, pw, rc, dep, dN, dC, dH, dM, nK, nV, nZ, nS, pl, mH, mW, mL, mR, cH, cW, cL, cR, lE, rN, rR, rC, st, tN, tB, tS) (vn, vN, vC, vH, vl, vh, vp, vf, vg, bk, ba, bc, bo, bh, bb, bf, bs)) (vn, vN, vC, vH, vl, vh, vp, vf, vg, bk, ba, bc, bo, bh, bb, bf, bs) v1 := by
      intro x t0 t1
      exact yp_taken y1 hok gY (by omega) (by omega) hvp hvf hvg hys (fun N h1 h2 h3 => ⟨t0 N h1 h2 h3, KEEP⟩) (fun q => ⟨t1 q, KEEP⟩)
    by_cases a1 : v1 < 0
    · refine br_f z (br_t a1 (T (-1) (fun N h1 h2 h3 => ?_) (fun _ => rfl)))
      rw [← h3] at a1
      exact absurd a1 (nI_pos (by omega))
    · obtain ⟨ι, hι, rfl⟩ := nI_of a1
      by_cases a2 : ι < 6
      · have c : (nI ι).toNatClampNeg = ι := nI_clamp (by omega)
        refine br_f z <| br_f a1 <| br_t (nI_lt (b := 6) a2 (by omega)) <| And.intro (vp_in_nI (by omega) (by omega)) ?_
        rw [c, pst ι a2]
        by_cases q : ds_cc r ≤ ι ∧ ι < ds_cc r + tr_cc t
        · rw [if_pos q]
          refine T _ (fun N h1 h2 h3 => ?_) (fun w => absurd rfl (w ι q.1 q.2))
          rw [(nI_eq (by omega) (by omega)).mp h3]
        · rw [if_neg q]
          refine T _ (fun N h1 h2 h3 => ?_) (fun w => rfl)
          have := (nI_eq (by omega) (by omega)).mp h3
          omega
      · refine br_f z <| br_f a1 <| br_f (nI_nlt (b := 6) (by omega) hι) (T (-1) (fun N h1 h2 h3 => ?_) (fun _ => rfl))
        have := (nI_eq (by omega) (by omega)).mp h3
        omega
theorem i_vc_count {k : Nat} {u : SX} {v : SY} (I : i_Rel k u v) (hk : k + 3 ≤ 1539) (v1 : Int32) : wpX_count (fun r => wpY_count (fun r' => r' = r ∧ i_Rel (k + 3) u v) v v1) u v1 := by
  refine zz_el (P := fun u v => wpX_count (fun r => wpY_count (fun r' => r' = r ∧ i_Rel (k + 3) u v) v v1) u v1) ?_ I
  intro kT kF kN kA kB kC sH sN sE nl cl hl doc nod chr cho mea sc ph pw rc dep dN dC dH dM nK nV nZ nS pl mH mW mL mR cH cW cL cR lE rN rR rC st tN tB tS vn vN vC vH vl vh vp vf vg bk ba bc bo bh bb bf bs N C H χ ds hp hx hy hl0 hpg
  have KEEP : i_Rel (k + 3) (kT, kF, kN, kA, kB, kC, sH, sN, sE, nl, cl, hl, doc, nod, chr, cho, mea, sc, ph, pw, rc, dep, dN, dC, dH, dM, nK, nV, nZ, nS, pl, mH, mW, mL, mR, cH, cW, cL, cR, lE, rN, rR, rC, st, tN, tB, tS) (vn, vN, vC, vH, vl, vh, vp, vf, vg, bk, ba, bc, bo, bh, bb, bf, bs) := zz_mk hp hx hy hl0 hpg
  have hp' := hp
  obtain ⟨hN8, hN40, hC64, hH6, q1, q2, q3, hok, hχ⟩ := hp'
  have hlen := ds_len_sz ds
  obtain ⟨e1, e2, e3, e4, e5, e6, e7, e8, gX, plX⟩ := id hx
  obtain ⟨y1, y2, y3, y4, gY, bcY⟩ := id hy
  have hc41 : nI ds.length = doc := e4.symm
  by_cases c0 : v1 = 0
  · subst c0
    subst y1
    exact br_f (by decide) (br_f (by decide) (br_t rfl (br_t rfl (yd_all hok gY (by omega) ⟨e4.symm, KEEP⟩))))
  by_cases c1 : v1 = 1
  · subst c1
    exact br_f (by decide) (br_f (by decide) (br_f c0 (br_t rfl (br_f c0 (br_t rfl ⟨y1.trans e5.symm, KEEP⟩)))))
  by_cases c2 : v1 = 2
  · subst c2
    subst y1
    exact br_f (by decide) (br_f (by decide) (br_f c0 (br_f c1 (br_t rfl (br_f c0 (br_f c1 (br_t rfl (yc_all hok gY (by omega) ⟨e6.symm, KEEP⟩))))))))
  by_cases c3 : v1 = 3
  · subst c3
    subst y1
    exact br_f (by decide) (br_f (by decide) (br_f c0 (br_f c1 (br_f c2 (br_t rfl (br_f c0 (br_f c1 (br_f c2 (br_t rfl (yh_all hok gY (by omega) ⟨e7.symm, KEEP⟩))))))))))
  by_cases c4 : v1 = 4
  · subst c4
    exact br_f (by decide) (br_f (by decide) (br_f c0 (br_f c1 (br_f c2 (br_f c3 (br_t rfl (br_f c0 (br_f c1 (br_f c2 (br_f c3 (br_t rfl ⟨y2.trans e1.symm, KEEP⟩)))))))))))
  by_cases c5 : v1 = 5
  · subst c5
    exact br_f (by decide) (br_f (by decide) (br_f c0 (br_f c1 (br_f c2 (br_f c3 (br_f c4 (br_t rfl (br_f c0 (br_f c1 (br_f c2 (br_f c3 (br_f c4 (br_t rfl ⟨y3.trans e2.symm, KEEP⟩)))))))))))))
  by_cases c6 : v1 = 6
  · subst c6
    exact br_f (by decide) (br_f (by decide) (br_f c0 (br_f c1 (br_f c2 (br_f c3 (br_f c4 (br_f c5 (br_t rfl (br_f c0 (br_f c1 (br_f c2 (br_f c3 (br_f c4 (br_f c5 (br_t rfl ⟨y4.trans e3.symm, KEEP⟩)))))))))))))))
  have Y : wpY_count (fun r' => r' = -1 ∧ i_Rel (k + 3) (kT, kF, kN, kA, kB, kC, sH, sN, sE, nl, cl, hl, doc, nod, chr, cho, mea, sc, ph, pw, rc, dep, dN, dC, dH, dM, nK, nV, nZ, nS, pl, mH, mW, mL, mR, cH, cW, cL, cR, lE, rN, rR, rC, st, tN, tB, tS) (vn, vN, vC, vH, vl, vh, vp, vf, vg, bk, ba, bc, bo, bh, bb, bf, bs)) (vn, vN, vC, vH, vl, vh, vp, vf, vg, bk, ba, bc, bo, bh, bb, bf, bs) v1 := br_f c0 (br_f c1 (br_f c2 (br_f c3 (br_f c4 (br_f c5 (br_f c6 ⟨rfl, KEEP⟩))))))
  by_cases a1 : v1 < 0
  · exact br_t a1 Y
  by_cases a2 : 6 < v1
  · exact br_f a1 (br_t a2 Y)
  · exact br_f a1 (br_f a2 (br_f c0 (br_f c1 (br_f c2 (br_f c3 (br_f c4 (br_f c5 (br_f c6 trivial))))))))
end
