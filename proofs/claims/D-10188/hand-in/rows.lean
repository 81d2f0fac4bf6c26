section
def bt (x : Int32) (i : Nat) : Bool := x.toBitVec.getLsbD i
theorem b_ext {x y : Int32} (h : ∀ i, i < 32 → bt x i = bt y i) : x = y := Int32.toBitVec_inj.mp (BitVec.eq_of_getLsbD_eq (fun i hi => h i hi))
theorem b_or (x y : Int32) (i : Nat) : bt (x ||| y) i = (bt x i || bt y i) := by unfold bt; rw [Int32.toBitVec_or, BitVec.getLsbD_or]
theorem b_and (x y : Int32) (i : Nat) : bt (x &&& y) i = (bt x i && bt y i) := by unfold bt; rw [Int32.toBitVec_and, BitVec.getLsbD_and]
theorem b_xor (x y : Int32) (i : Nat) : bt (x ^^^ y) i = (bt x i ^^ bt y i) := by unfold bt; rw [Int32.toBitVec_xor, BitVec.getLsbD_xor]
theorem b_big {x : Int32} {i : Nat} (h : 32 ≤ i) : bt x i = false := BitVec.getLsbD_of_ge _ _ h
theorem b_m1 : ∀ i, i < 32 → bt (-1) i = true := by decide +kernel
theorem b_0 (i : Nat) : bt 0 i = false := BitVec.getLsbD_zero
theorem s_l : ∀ n, n < 32 → ((nI n &&& 31).toBitVec.smod 32).toNat = n := by decide +kernel
theorem b_shl (n : Nat) (hn : n < 32) (x : Int32) {i : Nat} (hi : i < 32) : bt (x <<< (nI n &&& 31)) i = (decide (n ≤ i) && bt x (i - n)) := by
  unfold bt
  rw [Int32.toBitVec_shiftLeft]
  show (x.toBitVec <<< ((nI n &&& 31).toBitVec.smod 32).toNat).getLsbD i = _
  rw [s_l n hn, BitVec.getLsbD_shiftLeft]
  rcases Nat.lt_or_ge i n with h | h
  · simp [h, Nat.not_le.mpr h]
  · simp [hi, h, Nat.not_lt.mpr h]
theorem b_sshr (n : Nat) (hn : n < 32) (x : Int32) {i : Nat} (hi : i < 32) : bt (x >>> (nI n &&& 31)) i = if n + i < 32 then bt x (n + i) else bt x 31 := by
  unfold bt
  rw [Int32.toBitVec_shiftRight]
  show (x.toBitVec.sshiftRight ((nI n &&& 31).toBitVec.smod 32).toNat).getLsbD i = _
  rw [s_l n hn, BitVec.getLsbD_sshiftRight, BitVec.msb_eq_getLsbD_last]
  simp [hi]
theorem wb_tb (n : Nat) : (lN n).toBitVec = BitVec.ofNat 64 n := rfl
theorem wb_inj {a b : Int64} (h : a.toBitVec = b.toBitVec) : a = b := Int64.toBitVec_inj.mp h
theorem wb_c : ∀ k, k < 64 → ((nI k).toInt64 &&& 63) = lN k := by decide +kernel
theorem wb_sm : ∀ k, k < 64 → (BitVec.ofNat 64 k).smod 64 = BitVec.ofNat 64 k := by decide +kernel
theorem wb_shl (n : Nat) {k : Nat} (hk : k < 64) : lN n <<< ((nI k).toInt64 &&& 63) = lN (n * 2 ^ k) := by
  rw [wb_c k hk]
  apply wb_inj
  rw [Int64.toBitVec_shiftLeft, wb_tb, wb_tb, wb_tb, wb_sm k hk]
  apply BitVec.eq_of_toNat_eq
  rw [BitVec.shiftLeft_eq', BitVec.toNat_shiftLeft, BitVec.toNat_ofNat, BitVec.toNat_ofNat, BitVec.toNat_ofNat, Nat.mod_eq_of_lt (show k < 2 ^ 64 by omega), Nat.shiftLeft_eq, Nat.mul_mod, Nat.mod_mod, ← Nat.mul_mod]
theorem u_tn {n : Nat} (h : n < 2 ^ 64) : (UInt64.ofNat n).toNat = n := Nat.mod_eq_of_lt h
theorem g_or {k p a b : Nat} (hp : 2 ^ k = p) (ha : a < p) (h : b * p + a < 2 ^ 64) : lN (b * p) ||| lN a = lN (b * p + a) := by
  subst hp
  have h1 : b * 2 ^ k ||| a = b * 2 ^ k + a := by rw [← Nat.shiftLeft_eq, Nat.shiftLeft_add_eq_or_of_lt ha]
  have h3 : UInt64.ofNat (b * 2 ^ k) ||| UInt64.ofNat a = UInt64.ofNat (b * 2 ^ k + a) := UInt64.toNat_inj.mp (by rw [UInt64.toNat_or, u_tn (by omega), u_tn (by omega), u_tn h, h1])
  have h2 := congrArg UInt64.toInt64 h3
  exact h2
theorem pf_lI {a : Nat} (h : a < 2 ^ 63) : (lN a).toInt = (a : Int) := lg_ofNat_toInt h
theorem pf_shr {a d : Nat} {D : Int64} (hD : (D.toBitVec.smod 64).toNat = d) (h : a < 2 ^ 62) : lN a >>> D = lN (a / 2 ^ d) := by
  have hd : a / 2 ^ d ≤ a := Nat.div_le_self _ _
  apply Int64.toInt_inj.mp
  have e : (lN a >>> D).toInt = (lN a).toInt >>> d := by
    rw [← hD]
    exact BitVec.toInt_sshiftRight ..
  rw [e, Int.shiftRight_eq_div_pow, pf_lI (by omega), pf_lI (by omega)]
  rfl
/-! ===== own rows on bits ===== -/
theorem ph_i8 : ∀ j, j < 128 → (nI j).toInt8.toInt32 = nI j := by decide +kernel
theorem ph_b1 : ∀ i, i < 32 → bt 1 i = decide (i = 0) := by decide +kernel
/-- only the bits 0 .. 23 -/
def ph_lo (x : Int32) : Prop := ∀ i, 24 ≤ i → bt x i = false
theorem ph_lo_0 : ph_lo 0 := fun i _ => b_0 i
theorem ph_lo_or {x y : Int32} (hx : ph_lo x) (hy : ph_lo y) : ph_lo (x ||| y) := fun i hi => by rw [b_or, hx i hi, hy i hi]; rfl
theorem ph_lo_and {x : Int32} (y : Int32) (hx : ph_lo x) : ph_lo (x &&& y) := fun i hi => by rw [b_and, hx i hi]; rfl
theorem ph_lo_and' {x : Int32} (y : Int32) (hx : ph_lo x) : ph_lo (y &&& x) := fun i hi => by rw [b_and, hx i hi]; exact Bool.and_false _
theorem ph_lo_1 {b : Nat} (hb : b < 24) : ph_lo ((1 : Int32) <<< (nI b &&& 31)) := by
  intro i hi
  rcases Nat.lt_or_ge i 32 with h | h
  · rw [b_shl b (by omega) 1 h, ph_b1 (i - b) (by omega), decide_eq_false (show ¬ i - b = 0 by omega), Bool.and_false]
  · exact b_big h
/-- one bit, as the code reads it -/
theorem ph_bit (x : Int32) {e : Nat} (he : e < 32) : (x >>> (nI e &&& 31)) &&& 1 = nI (if bt x e = true then 1 else 0) := by
  apply b_ext
  intro i hi
  rw [b_and, ph_b1 i hi]
  by_cases h0 : i = 0
  · subst h0
    rw [b_sshr e he x (by omega), Nat.add_zero, if_pos he]
    cases hb : bt x e
    · rfl
    · rfl
  · rw [decide_eq_false h0, Bool.and_false]
    cases hb : bt x e
    · exact (b_0 i).symm
    · exact ((ph_b1 i hi).trans (decide_eq_false h0)).symm
theorem ph_bit0 (x : Int32) {e : Nat} (he : e < 32) : (x >>> (nI e &&& 31)) &&& 1 = 0 ↔ bt x e = false := by
  rw [ph_bit x he]
  cases hb : bt x e
  · exact ⟨fun _ => rfl, fun _ => rfl⟩
  · exact ⟨fun h => absurd h (by decide), fun h => absurd h (by decide)⟩
theorem ph_lo_z {x : Int32} (hx : ph_lo x) (h : ∀ e, e < 24 → bt x e = false) : x = 0 := by
  apply b_ext
  intro i hi
  rw [b_0]
  rcases Nat.lt_or_ge i 24 with g | g
  · exact h i g
  · exact hx i g
theorem ph_or0 (x : Int32) : x ||| 0 = x := by
  apply b_ext
  intro i hi
  rw [b_or, b_0, Bool.or_false]
end
section
/-! ===== the tokens, read into a stack of (token, parts still wanted) ===== -/
def ph_wt (t : Nat) : Nat := if t < 12 then 0 else if t = 22 ∨ t = 23 then 1 else 2
def ph_at (l : List (Nat × Nat)) : List (Nat × Nat) := match l with
  | [] => []
  | (t, w) :: r => if w = 1 then r else (t, w - 1) :: r
def ph_ps (tk : Nat → Nat) (j : Nat) (l : List (Nat × Nat)) : List (Nat × Nat) := if ph_wt (tk j) = 0 then l else (j, ph_wt (tk j)) :: l
def ph_st (tk : Nat → Nat) : Nat → List (Nat × Nat)
  | 0 => []
  | j + 1 => ph_ps tk j (ph_at (ph_st tk j))
/-- second[t] as one step writes it -/
def ph_s1 (l : List (Nat × Nat)) (j : Nat) (f : Nat → Nat) : Nat → Nat := match l with
  | [] => f
  | (t, _) :: _ => if j = t + 1 then f else fun x => if x = t then j else f x
def ph_sc (tk : Nat → Nat) : Nat → Nat → Nat
  | 0 => fun _ => 0
  | j + 1 => ph_s1 (ph_st tk j) j (ph_sc tk j)
/-- a token t may stand under a token p -/
def ph_gd (p t : Nat) : Prop := if p = 23 ∨ p ≤ 18 then t ≤ 18 else 20 ≤ t ∧ t ≤ 23
def ph_top (tk : Nat → Nat) (l : List (Nat × Nat)) : Nat := match l with
  | [] => 20
  | (t, _) :: _ => tk t
def ph_V (tk : Nat → Nat) (n : Nat) : Prop := ∀ j, j < n → (j = 0 ∨ ph_st tk j ≠ []) ∧ ph_gd (ph_top tk (ph_st tk j)) (tk j)
def ph_C (tk : Nat → Nat) (n : Nat) : Prop := 0 < n ∧ ph_st tk n = []
theorem ph_wt0 {t : Nat} : ph_wt t = 0 ↔ t < 12 := by
  unfold ph_wt
  by_cases h : t < 12
  · rw [if_pos h]; exact ⟨fun _ => h, fun _ => rfl⟩
  · rw [if_neg h]
    by_cases g : t = 22 ∨ t = 23
    · rw [if_pos g]; omega
    · rw [if_neg g]; omega
theorem ph_wt2 {t : Nat} : ph_wt t = 2 ↔ 12 ≤ t ∧ ¬ t = 22 ∧ ¬ t = 23 := by
  unfold ph_wt
  by_cases h : t < 12
  · rw [if_pos h]; omega
  · rw [if_neg h]
    by_cases g : t = 22 ∨ t = 23
    · rw [if_pos g]; omega
    · rw [if_neg g]; omega
theorem ph_wt_le (t : Nat) : ph_wt t ≤ 2 := by
  unfold ph_wt
  by_cases h : t < 12
  · rw [if_pos h]; omega
  · rw [if_neg h]
    by_cases g : t = 22 ∨ t = 23
    · rw [if_pos g]; omega
    · rw [if_neg g]; omega
theorem ph_gd_s {p t : Nat} (h : ph_gd p t) (hp : p = 23 ∨ p ≤ 18) : t ≤ 18 := by
  unfold ph_gd at h
  rw [if_pos hp] at h
  exact h
theorem ph_gd_c {p t : Nat} (h : ph_gd p t) (hp : ¬ (p = 23 ∨ p ≤ 18)) : 20 ≤ t ∧ t ≤ 23 := by
  unfold ph_gd at h
  rw [if_neg hp] at h
  exact h
theorem ph_gd_or {p t : Nat} (h : ph_gd p t) : t ≤ 18 ∨ (20 ≤ t ∧ t ≤ 23) := by
  by_cases hp : p = 23 ∨ p ≤ 18
  · exact Or.inl (ph_gd_s h hp)
  · exact Or.inr (ph_gd_c h hp)
theorem ph_V_tk {tk : Nat → Nat} {n j : Nat} (h : ph_V tk n) (hj : j < n) : tk j ≤ 18 ∨ (20 ≤ tk j ∧ tk j ≤ 23) := ph_gd_or (h j hj).2
theorem ph_V_le {tk : Nat → Nat} {n m : Nat} (h : ph_V tk n) (hm : m ≤ n) : ph_V tk m := fun j hj => h j (by omega)
theorem ph_st_push {tk : Nat → Nat} {t : Nat} (h : 12 ≤ tk t) : ph_st tk (t + 1) = (t, ph_wt (tk t)) :: ph_at (ph_st tk t) := by
  show ph_ps tk t (ph_at (ph_st tk t)) = _
  unfold ph_ps
  rw [if_neg (fun z => absurd (ph_wt0.mp z) (by omega))]
theorem ph_st_skip {tk : Nat → Nat} {t : Nat} (h : tk t < 12) : ph_st tk (t + 1) = ph_at (ph_st tk t) := by
  show ph_ps tk t (ph_at (ph_st tk t)) = _
  unfold ph_ps
  rw [if_pos (ph_wt0.mpr h)]
/-- behind an attach: every entry has had its first part, and wants one more -/
theorem ph_low (tk : Nat → Nat) : ∀ i t w, (t, w) ∈ ph_at (ph_st tk i) → w = 1 ∧ ph_wt (tk t) = 2 ∧ t < i := by
  intro i
  induction i with
  | zero => intro t w h; exact absurd h (List.not_mem_nil)
  | succ i ih =>
    intro t w h
    by_cases hk : tk i < 12
    · rw [ph_st_skip hk] at h
      cases hl : ph_at (ph_st tk i) with
      | nil => rw [hl] at h; exact absurd h (List.not_mem_nil)
      | cons p r =>
        obtain ⟨t0, w0⟩ := p
        rw [hl] at h ih
        have h0 := ih t0 w0 (List.mem_cons_self ..)
        have e : ph_at ((t0, w0) :: r) = r := by
          show (if w0 = 1 then r else (t0, w0 - 1) :: r) = r
          rw [if_pos h0.1]
        rw [e] at h
        have h1 := ih t w (List.mem_cons_of_mem _ h)
        exact ⟨h1.1, h1.2.1, by omega⟩
    · rw [ph_st_push (by omega)] at h
      have hle := ph_wt_le (tk i)
      have hne : ph_wt (tk i) ≠ 0 := fun z => hk (ph_wt0.mp z)
      have e : ph_at ((i, ph_wt (tk i)) :: ph_at (ph_st tk i)) = if ph_wt (tk i) = 1 then ph_at (ph_st tk i) else (i, ph_wt (tk i) - 1) :: ph_at (ph_st tk i) := rfl
      rw [e] at h
      by_cases h1 : ph_wt (tk i) = 1
      · rw [if_pos h1] at h
        have h2 := ih t w h
        exact ⟨h2.1, h2.2.1, by omega⟩
      · rw [if_neg h1] at h
        rcases List.mem_cons.mp h with g | g
        · have g1 : t = i := congrArg Prod.fst g
          have g2 : w = ph_wt (tk i) - 1 := congrArg Prod.snd g
          rw [g1]
          exact ⟨by omega, by omega, by omega⟩
        · have h2 := ih t w g
          exact ⟨h2.1, h2.2.1, by omega⟩
theorem ph_mem {tk : Nat → Nat} {j t w : Nat} (h : (t, w) ∈ ph_st tk j) : t < j ∧ (w = 1 ∨ w = 2) ∧ 12 ≤ tk t := by
  cases j with
  | zero => exact absurd h (List.not_mem_nil)
  | succ i =>
    by_cases hk : tk i < 12
    · rw [ph_st_skip hk] at h
      have h1 := ph_low tk i t w h
      exact ⟨by omega, Or.inl h1.1, (ph_wt2.mp h1.2.1).1⟩
    · rw [ph_st_push (by omega)] at h
      rcases List.mem_cons.mp h with g | g
      · have g1 : t = i := congrArg Prod.fst g
        have g2 : w = ph_wt (tk i) := congrArg Prod.snd g
        have hle := ph_wt_le (tk i)
        have hne : ph_wt (tk i) ≠ 0 := fun z => hk (ph_wt0.mp z)
        rw [g1]
        exact ⟨by omega, by omega, by omega⟩
      · have h1 := ph_low tk i t w g
        exact ⟨by omega, Or.inl h1.1, (ph_wt2.mp h1.2.1).1⟩
theorem ph_at_len (l : List (Nat × Nat)) : (ph_at l).length ≤ l.length := by
  cases l with
  | nil => exact Nat.le_refl _
  | cons p r =>
    obtain ⟨t, w⟩ := p
    show (if w = 1 then r else (t, w - 1) :: r).length ≤ r.length + 1
    by_cases h : w = 1
    · rw [if_pos h]; omega
    · rw [if_neg h]; exact Nat.le_refl _
theorem ph_st_len (tk : Nat → Nat) (j : Nat) : (ph_st tk j).length ≤ j := by
  induction j with
  | zero => exact Nat.le_refl _
  | succ j ih =>
    have h := ph_at_len (ph_st tk j)
    by_cases hk : tk j < 12
    · rw [ph_st_skip hk]; omega
    · rw [ph_st_push (by omega)]
      show (ph_at (ph_st tk j)).length + 1 ≤ j + 1
      omega
/-- the tokens behind j play no part -/
theorem ph_st_eq {tk tk' : Nat → Nat} {n : Nat} (h : ∀ i, i < n → tk' i = tk i) : ph_st tk' n = ph_st tk n := by
  induction n with
  | zero => rfl
  | succ n ih =>
    have e := ih (fun i hi => h i (by omega))
    show ph_ps tk' n (ph_at (ph_st tk' n)) = ph_ps tk n (ph_at (ph_st tk n))
    unfold ph_ps
    rw [e, h n (by omega)]
theorem ph_top_eq {tk tk' : Nat → Nat} {n : Nat} (h : ∀ i, i < n → tk' i = tk i) : ph_top tk' (ph_st tk' n) = ph_top tk (ph_st tk n) := by
  rw [ph_st_eq h]
  cases hl : ph_st tk n with
  | nil => rfl
  | cons p r =>
    obtain ⟨t, w⟩ := p
    exact h t (ph_mem (show (t, w) ∈ ph_st tk n by rw [hl]; exact List.mem_cons_self ..)).1
/-- a token that is good is set behind -/
theorem ph_V_add {tk : Nat → Nat} {n p : Nat} (h : ph_V tk n) (h0 : n = 0 ∨ ph_st tk n ≠ []) (hg : ph_gd (ph_top tk (ph_st tk n)) p) : ph_V (fun j => if j = n then p else tk j) (n + 1) := by
  intro j hj
  have e : ∀ i, i < j → (fun j => if j = n then p else tk j) i = tk i := fun i hi => if_neg (by omega)
  rw [ph_top_eq e, ph_st_eq e]
  dsimp only
  by_cases g : j = n
  · rw [if_pos g, g]
    exact ⟨h0, hg⟩
  · rw [if_neg g]
    exact h j (by omega)
/-- the second part of each token that wants two -/
theorem ph_snd {tk : Nat → Nat} {n : Nat} (h : ph_V tk n) : ∀ j, j ≤ n → ∀ t, t < j → ph_wt (tk t) = 2 → (∃ w, (t, w) ∈ ph_st tk j) ∨ (t < ph_sc tk j t ∧ ph_sc tk j t < j ∧ ph_gd (tk t) (tk (ph_sc tk j t))) := by
  intro j
  induction j with
  | zero => intro _ t ht; exact absurd ht (by omega)
  | succ j ih =>
    intro hj t ht h2
    have sub : ∀ x, x ∈ ph_at (ph_st tk j) → x ∈ ph_st tk (j + 1) := by
      intro x hx
      by_cases hk : tk j < 12
      · rw [ph_st_skip hk]; exact hx
      · rw [ph_st_push (by omega)]; exact List.mem_cons_of_mem _ hx
    by_cases e : t = j
    · subst e
      left
      exact ⟨ph_wt (tk t), by rw [ph_st_push (ph_wt2.mp h2).1]; exact List.mem_cons_self ..⟩
    · have hv := (h j (by omega)).2
      have h3 := ih (by omega) t (by omega) h2
      show (∃ w, (t, w) ∈ ph_st tk (j + 1)) ∨ (t < ph_s1 (ph_st tk j) j (ph_sc tk j) t ∧ ph_s1 (ph_st tk j) j (ph_sc tk j) t < j + 1 ∧ ph_gd (tk t) (tk (ph_s1 (ph_st tk j) j (ph_sc tk j) t)))
      cases hl : ph_st tk j with
      | nil =>
        rw [hl] at h3
        rcases h3 with ⟨w, hw⟩ | h3
        · exact absurd hw (List.not_mem_nil)
        · right
          exact ⟨h3.1, Nat.lt_succ_of_lt h3.2.1, h3.2.2⟩
      | cons q r =>
        obtain ⟨t0, w0⟩ := q
        rw [hl] at h3 hv
        have hm0 := ph_mem (show (t0, w0) ∈ ph_st tk j by rw [hl]; exact List.mem_cons_self ..)
        have ea : ph_at (ph_st tk j) = if w0 = 1 then r else (t0, w0 - 1) :: r := by rw [hl]; rfl
        rw [ea] at sub
        have es : ph_s1 ((t0, w0) :: r) j (ph_sc tk j) = if j = t0 + 1 then ph_sc tk j else fun x => if x = t0 then j else ph_sc tk j x := rfl
        rw [es]
        by_cases ht0 : t = t0
        · subst ht0
          by_cases hj1 : j = t + 1
          · -- the first part
            have hp := ph_st_push (ph_wt2.mp h2).1
            rw [← hj1, hl] at hp
            have hw0 : w0 = ph_wt (tk t) := congrArg Prod.snd (List.cons.inj hp).1
            rw [if_neg (show ¬ w0 = 1 by omega)] at sub
            left
            exact ⟨w0 - 1, sub _ (List.mem_cons_self ..)⟩
          · right
            rw [if_neg hj1]
            show t < (if t = t then j else ph_sc tk j t) ∧ (if t = t then j else ph_sc tk j t) < j + 1 ∧ ph_gd (tk t) (tk (if t = t then j else ph_sc tk j t))
            rw [if_pos rfl]
            exact ⟨by omega, by omega, hv⟩
        · rcases h3 with ⟨w, hw⟩ | h3
          · left
            rcases List.mem_cons.mp hw with g | g
            · exact absurd (congrArg Prod.fst g) ht0
            · refine ⟨w, sub _ ?_⟩
              by_cases hw0 : w0 = 1
              · rw [if_pos hw0]; exact g
              · rw [if_neg hw0]; exact List.mem_cons_of_mem _ g
          · right
            have ev : (if j = t0 + 1 then ph_sc tk j else fun x => if x = t0 then j else ph_sc tk j x) t = ph_sc tk j t := by
              by_cases hj1 : j = t0 + 1
              · rw [if_pos hj1]
              · rw [if_neg hj1]
                exact if_neg ht0
            rw [ev]
            exact ⟨h3.1, by omega, h3.2.2⟩
/-- what a complete query's tokens stand over -/
theorem ph_C_last {tk : Nat → Nat} {n k : Nat} (hc : ph_C tk n) (hk : k < n) (h : 12 ≤ tk k) : k + 1 < n := by
  rcases Nat.lt_or_ge (k + 1) n with g | g
  · exact g
  · have e : n = k + 1 := by omega
    have h2 := hc.2
    rw [e, ph_st_push h] at h2
    exact absurd h2 (List.cons_ne_nil _ _)
theorem ph_C_one {tk : Nat → Nat} {n k : Nat} (hv : ph_V tk n) (hc : ph_C tk n) (hk : k < n) (h : 12 ≤ tk k) : ph_gd (tk k) (tk (k + 1)) := by
  have h2 := (hv (k + 1) (ph_C_last hc hk h)).2
  rw [ph_st_push h] at h2
  exact h2
theorem ph_C_two {tk : Nat → Nat} {n k : Nat} (hv : ph_V tk n) (hc : ph_C tk n) (hk : k < n) (h : ph_wt (tk k) = 2) : k < ph_sc tk n k ∧ ph_sc tk n k < n ∧ ph_gd (tk k) (tk (ph_sc tk n k)) := by
  rcases ph_snd hv n (Nat.le_refl n) k hk h with ⟨w, hw⟩ | h2
  · rw [hc.2] at hw
    exact absurd hw (List.not_mem_nil)
  · exact h2
theorem ph_V_0 {tk : Nat → Nat} {n : Nat} (hv : ph_V tk n) (hn : 0 < n) : 20 ≤ tk 0 ∧ tk 0 ≤ 23 := ph_gd_c (hv 0 hn).2 (by show ¬ (20 = 23 ∨ 20 ≤ 18); omega)
end
section
/-! ===== what one token's row of ends is, and its truth ===== -/
/-- greatest, from e - 1 down -/
def ph_gq (x : Int32) : Nat → Int32
  | 0 => -1
  | e + 1 => if (x >>> (nI e &&& 31)) &&& 1 = 0 then ph_gq x e else nI e
/-- farthest, behind b places -/
def ph_far (r : Nat → Int32) : Nat → Int32
  | 0 => -1
  | b + 1 => if ph_gq (r b) 24 ≤ ph_far r b then ph_far r b else ph_gq (r b) 24
/-- goOn, behind e places -/
def ph_go (x : Int32) (ds : Nat) (r : Nat → Int32) : Nat → Int32
  | 0 => 0
  | e + 1 => if (x >>> (nI e &&& 31)) &&& 1 = 0 then ph_go x ds r e else ph_go x ds r e ||| r (e + ds)
def ph_cm (t : Nat) (r s : Nat → Int32) (b : Nat) : Int32 :=
  if t = 12 then r b ||| s b else if t = 18 then r b &&& (((1 : Int32) <<< ((ph_far s (b + 1) + 1) &&& 31)) - 1) else ph_go (r b) (t - 13) s (24 - (t - 13))
def ph_any (r : Nat → Int32) : Nat → Bool
  | 0 => false
  | b + 1 => ph_any r b || decide (r b ≠ 0)
def ph_cn (t : Nat) (r : Nat → Int32) (f g : Int32) : Int32 :=
  if t = 23 then (if ph_any r 24 = true then 1 else 0) else if t = 22 then (if f = 0 then 1 else 0) else if t = 20 then (if f = 0 then 0 else if g = 0 then 0 else 1) else (if f = 0 then (if g = 0 then 0 else 1) else 1)
/-- the rows and truths when the last m tokens of n are worked out -/
def ph_wk (tk sc : Nat → Nat) (n : Nat) (ps : Nat → Int32) : Nat → (Nat → Nat → Int32) × (Nat → Int32)
  | 0 => (fun _ _ => 0, fun _ => 0)
  | m + 1 =>
    if tk (n - (m + 1)) < 12 then (fun j => if j = n - (m + 1) then (fun b => ps (tk (n - (m + 1))) &&& ((1 : Int32) <<< (nI b &&& 31))) else (ph_wk tk sc n ps m).1 j, (ph_wk tk sc n ps m).2)
    else if tk (n - (m + 1)) ≤ 18 then (fun j => if j = n - (m + 1) then ph_cm (tk (n - (m + 1))) ((ph_wk tk sc n ps m).1 (n - (m + 1) + 1)) ((ph_wk tk sc n ps m).1 (sc (n - (m + 1)))) else (ph_wk tk sc n ps m).1 j, (ph_wk tk sc n ps m).2)
    else ((ph_wk tk sc n ps m).1, fun j => if j = n - (m + 1) then ph_cn (tk (n - (m + 1))) ((ph_wk tk sc n ps m).1 (n - (m + 1) + 1)) ((ph_wk tk sc n ps m).2 (n - (m + 1) + 1)) ((ph_wk tk sc n ps m).2 (sc (n - (m + 1)))) else (ph_wk tk sc n ps m).2 j)
theorem ph_wk_w {tk sc : Nat → Nat} {n m k : Nat} {ps : Nat → Int32} (hk : n - (m + 1) = k) (h : tk k < 12) : ph_wk tk sc n ps (m + 1) = (fun j => if j = k then (fun b => ps (tk k) &&& ((1 : Int32) <<< (nI b &&& 31))) else (ph_wk tk sc n ps m).1 j, (ph_wk tk sc n ps m).2) := by
  subst hk
  exact if_pos h
theorem ph_wk_c {tk sc : Nat → Nat} {n m k : Nat} {ps : Nat → Int32} (hk : n - (m + 1) = k) (h : 12 ≤ tk k) (h2 : tk k ≤ 18) : ph_wk tk sc n ps (m + 1) = (fun j => if j = k then ph_cm (tk k) ((ph_wk tk sc n ps m).1 (k + 1)) ((ph_wk tk sc n ps m).1 (sc k)) else (ph_wk tk sc n ps m).1 j, (ph_wk tk sc n ps m).2) := by
  subst hk
  exact (if_neg (by omega)).trans (if_pos h2)
theorem ph_wk_t {tk sc : Nat → Nat} {n m k : Nat} {ps : Nat → Int32} (hk : n - (m + 1) = k) (h : 18 < tk k) : ph_wk tk sc n ps (m + 1) = ((ph_wk tk sc n ps m).1, fun j => if j = k then ph_cn (tk k) ((ph_wk tk sc n ps m).1 (k + 1)) ((ph_wk tk sc n ps m).2 (k + 1)) ((ph_wk tk sc n ps m).2 (sc k)) else (ph_wk tk sc n ps m).2 j) := by
  subst hk
  exact (if_neg (by omega)).trans (if_neg (by omega))
theorem ph_any_t {r : Nat → Int32} {m : Nat} : ph_any r m = true ↔ ∃ b, b < m ∧ r b ≠ 0 := by
  induction m with
  | zero => exact ⟨fun h => absurd (show false = true from h) (by decide), fun ⟨b, hb, _⟩ => absurd hb (by omega)⟩
  | succ m ih =>
    show (ph_any r m || decide (r m ≠ 0)) = true ↔ _
    rw [Bool.or_eq_true, ih, decide_eq_true_iff]
    constructor
    · rintro (⟨b, hb, h⟩ | h)
      · exact ⟨b, by omega, h⟩
      · exact ⟨m, by omega, h⟩
    · rintro ⟨b, hb, h⟩
      by_cases e : b = m
      · right; rw [← e]; exact h
      · left; exact ⟨b, by omega, h⟩
theorem ph_any_f {r : Nat → Int32} {m : Nat} (h : ∀ b, b < m → r b = 0) : ¬ ph_any r m = true := fun z => by
  obtain ⟨b, hb, g⟩ := ph_any_t.mp z
  exact g (h b hb)
/-! only 24 places of a row are read -/
theorem ph_far_eq {r s : Nat → Int32} {b : Nat} (h : ∀ c, c < b → r c = s c) : ph_far r b = ph_far s b := by
  induction b with
  | zero => rfl
  | succ b ih =>
    show (if ph_gq (r b) 24 ≤ ph_far r b then ph_far r b else ph_gq (r b) 24) = (if ph_gq (s b) 24 ≤ ph_far s b then ph_far s b else ph_gq (s b) 24)
    rw [ih (fun c hc => h c (by omega)), h b (by omega)]
theorem ph_go_eq {x : Int32} {ds : Nat} {r s : Nat → Int32} {e : Nat} (h : ∀ c, c < e → r (c + ds) = s (c + ds)) : ph_go x ds r e = ph_go x ds s e := by
  induction e with
  | zero => rfl
  | succ e ih =>
    show (if (x >>> (nI e &&& 31)) &&& 1 = 0 then ph_go x ds r e else ph_go x ds r e ||| r (e + ds)) = (if (x >>> (nI e &&& 31)) &&& 1 = 0 then ph_go x ds s e else ph_go x ds s e ||| s (e + ds))
    rw [ih (fun c hc => h c (by omega)), h e (by omega)]
theorem ph_cm_eq {t : Nat} {r s r' s' : Nat → Int32} (hr : ∀ c, c < 24 → r c = r' c) (hs : ∀ c, c < 24 → s c = s' c) {b : Nat} (hb : b < 24) : ph_cm t r s b = ph_cm t r' s' b := by
  unfold ph_cm
  rw [hr b hb, hs b hb, ph_far_eq (r := s) (s := s') (b := b + 1) (fun c hc => hs c (by omega)), ph_go_eq (r := s) (s := s') (e := 24 - (t - 13)) (fun c hc => hs _ (by omega))]
theorem ph_any_eq {r s : Nat → Int32} {m : Nat} (h : ∀ c, c < m → r c = s c) : ph_any r m = ph_any s m := by
  induction m with
  | zero => rfl
  | succ m ih =>
    show (ph_any r m || decide (r m ≠ 0)) = (ph_any s m || decide (s m ≠ 0))
    rw [ih (fun c hc => h c (by omega)), h m (by omega)]
/-! the rows hold bits 0 .. 23 alone -/
theorem ph_go_lo {x : Int32} {ds : Nat} {r : Nat → Int32} {e : Nat} (h : ∀ c, c < e → ph_lo (r (c + ds))) : ph_lo (ph_go x ds r e) := by
  induction e with
  | zero => exact ph_lo_0
  | succ e ih =>
    show ph_lo (if (x >>> (nI e &&& 31)) &&& 1 = 0 then ph_go x ds r e else ph_go x ds r e ||| r (e + ds))
    have h1 := ih (fun c hc => h c (by omega))
    by_cases g : (x >>> (nI e &&& 31)) &&& 1 = 0
    · rw [if_pos g]; exact h1
    · rw [if_neg g]; exact ph_lo_or h1 (h e (by omega))
theorem ph_cm_lo {t : Nat} {r s : Nat → Int32} (hr : ∀ c, c < 24 → ph_lo (r c)) (hs : ∀ c, c < 24 → ph_lo (s c)) {b : Nat} (hb : b < 24) : ph_lo (ph_cm t r s b) := by
  unfold ph_cm
  by_cases h : t = 12
  · rw [if_pos h]; exact ph_lo_or (hr b hb) (hs b hb)
  · rw [if_neg h]
    by_cases g : t = 18
    · rw [if_pos g]; exact ph_lo_and _ (hr b hb)
    · rw [if_neg g]; exact ph_go_lo (fun c hc => hs _ (by omega))
theorem ph_wk_lo (tk sc : Nat → Nat) (n : Nat) (ps : Nat → Int32) (m : Nat) : ∀ j b, b < 24 → ph_lo ((ph_wk tk sc n ps m).1 j b) := by
  induction m with
  | zero => intro j b _; exact ph_lo_0
  | succ m ih =>
    intro j b hb
    by_cases h : tk (n - (m + 1)) < 12
    · rw [ph_wk_w rfl h]
      show ph_lo ((if j = n - (m + 1) then (fun b => ps (tk (n - (m + 1))) &&& ((1 : Int32) <<< (nI b &&& 31))) else (ph_wk tk sc n ps m).1 j) b)
      by_cases g : j = n - (m + 1)
      · rw [if_pos g]; exact ph_lo_and' _ (ph_lo_1 hb)
      · rw [if_neg g]; exact ih j b hb
    · by_cases h2 : tk (n - (m + 1)) ≤ 18
      · rw [ph_wk_c rfl (by omega) h2]
        show ph_lo ((if j = n - (m + 1) then ph_cm (tk (n - (m + 1))) ((ph_wk tk sc n ps m).1 (n - (m + 1) + 1)) ((ph_wk tk sc n ps m).1 (sc (n - (m + 1)))) else (ph_wk tk sc n ps m).1 j) b)
        by_cases g : j = n - (m + 1)
        · rw [if_pos g]; exact ph_cm_lo (fun c hc => ih _ c hc) (fun c hc => ih _ c hc) hb
        · rw [if_neg g]; exact ih j b hb
      · rw [ph_wk_t rfl (by omega)]
        exact ih j b hb
/-- the arrays hold what is worked out, from token i on -/
def ph_R (tk sc : Nat → Nat) (n : Nat) (ps : Nat → Int32) (i : Nat) (a8 a9 : Nat → Int32) : Prop := ∀ j, i ≤ j → j < n → (tk j ≤ 18 → ∀ b, b < 24 → a8 (j * 24 + b) = (ph_wk tk sc n ps (n - i)).1 j b) ∧ (20 ≤ tk j → a9 j = (ph_wk tk sc n ps (n - i)).2 j)
theorem ph_R_w {tk sc : Nat → Nat} {n i : Nat} {ps a8 a9 a : Nat → Int32} (hi : i < n) (h : tk i < 12) (hR : ph_R tk sc n ps (i + 1) a8 a9)
    (h1 : ∀ b, b < 24 → a (i * 24 + b) = ps (tk i) &&& ((1 : Int32) <<< (nI b &&& 31))) (h2 : ∀ j, i < j → ∀ b, b < 24 → a (j * 24 + b) = a8 (j * 24 + b)) : ph_R tk sc n ps i a a9 := by
  intro j hj hn
  have e : n - i = n - (i + 1) + 1 := by omega
  rw [e, ph_wk_w (k := i) (by omega) h]
  by_cases g : j = i
  · subst g
    refine ⟨fun _ b hb => ?_, fun z => absurd z (by omega)⟩
    show a (j * 24 + b) = (if j = j then (fun b => ps (tk j) &&& ((1 : Int32) <<< (nI b &&& 31))) else (ph_wk tk sc n ps (n - (j + 1))).1 j) b
    rw [if_pos rfl]
    exact h1 b hb
  · obtain ⟨q1, q2⟩ := hR j (by omega) hn
    refine ⟨fun z b hb => ?_, q2⟩
    show a (j * 24 + b) = (if j = i then (fun b => ps (tk i) &&& ((1 : Int32) <<< (nI b &&& 31))) else (ph_wk tk sc n ps (n - (i + 1))).1 j) b
    rw [if_neg g, h2 j (by omega) b hb]
    exact q1 z b hb
theorem ph_R_c {tk sc : Nat → Nat} {n i : Nat} {ps a8 a9 a : Nat → Int32} (hi : i + 1 < n) (h : 12 ≤ tk i) (h' : tk i ≤ 18) (ho : tk (i + 1) ≤ 18) (hs : i < sc i) (hs' : sc i < n) (hq : tk (sc i) ≤ 18) (hR : ph_R tk sc n ps (i + 1) a8 a9)
    (h1 : ∀ b, b < 24 → a (i * 24 + b) = ph_cm (tk i) (fun c => a8 ((i + 1) * 24 + c)) (fun c => a8 (sc i * 24 + c)) b) (h2 : ∀ j, i < j → ∀ b, b < 24 → a (j * 24 + b) = a8 (j * 24 + b)) : ph_R tk sc n ps i a a9 := by
  intro j hj hn
  have e : n - i = n - (i + 1) + 1 := by omega
  rw [e, ph_wk_c (k := i) (by omega) h h']
  by_cases g : j = i
  · subst g
    refine ⟨fun _ b hb => ?_, fun z => absurd z (by omega)⟩
    show a (j * 24 + b) = (if j = j then ph_cm (tk j) ((ph_wk tk sc n ps (n - (j + 1))).1 (j + 1)) ((ph_wk tk sc n ps (n - (j + 1))).1 (sc j)) else (ph_wk tk sc n ps (n - (j + 1))).1 j) b
    rw [if_pos rfl, h1 b hb]
    exact ph_cm_eq (fun c hc => (hR (j + 1) (by omega) hi).1 ho c hc) (fun c hc => (hR (sc j) (by omega) hs').1 hq c hc) hb
  · obtain ⟨q1, q2⟩ := hR j (by omega) hn
    refine ⟨fun z b hb => ?_, q2⟩
    show a (j * 24 + b) = (if j = i then ph_cm (tk i) ((ph_wk tk sc n ps (n - (i + 1))).1 (i + 1)) ((ph_wk tk sc n ps (n - (i + 1))).1 (sc i)) else (ph_wk tk sc n ps (n - (i + 1))).1 j) b
    rw [if_neg g, h2 j (by omega) b hb]
    exact q1 z b hb
theorem ph_R_t {tk sc : Nat → Nat} {n i : Nat} {ps a8 a9 a : Nat → Int32} (hi : i + 1 < n) (h : 20 ≤ tk i) (ho : tk i = 23 → tk (i + 1) ≤ 18) (hf : ¬ tk i = 23 → 20 ≤ tk (i + 1)) (hs : ¬ tk i = 23 → ¬ tk i = 22 → i < sc i ∧ sc i < n ∧ 20 ≤ tk (sc i)) (hR : ph_R tk sc n ps (i + 1) a8 a9)
    (h1 : a i = ph_cn (tk i) (fun c => a8 ((i + 1) * 24 + c)) (a9 (i + 1)) (a9 (sc i))) (h2 : ∀ j, i < j → a j = a9 j) : ph_R tk sc n ps i a8 a := by
  intro j hj hn
  have e : n - i = n - (i + 1) + 1 := by omega
  rw [e, ph_wk_t (k := i) (by omega) (by omega)]
  by_cases g : j = i
  · subst g
    refine ⟨fun z => absurd z (by omega), fun _ => ?_⟩
    show a j = (if j = j then ph_cn (tk j) ((ph_wk tk sc n ps (n - (j + 1))).1 (j + 1)) ((ph_wk tk sc n ps (n - (j + 1))).2 (j + 1)) ((ph_wk tk sc n ps (n - (j + 1))).2 (sc j)) else (ph_wk tk sc n ps (n - (j + 1))).2 j)
    rw [if_pos rfl, h1]
    unfold ph_cn
    by_cases g3 : tk j = 23
    · rw [if_pos g3, if_pos g3, ph_any_eq (fun c hc => (hR (j + 1) (by omega) hi).1 (ho g3) c hc)]
    · rw [if_neg g3, if_neg g3, (hR (j + 1) (by omega) hi).2 (hf g3)]
      by_cases g2 : tk j = 22
      · rw [if_pos g2, if_pos g2]
      · obtain ⟨q1, q2, q3⟩ := hs g3 g2
        rw [if_neg g2, if_neg g2, (hR (sc j) (by omega) q2).2 q3]
  · obtain ⟨q1, q2⟩ := hR j (by omega) hn
    refine ⟨q1, fun z => ?_⟩
    show a j = (if j = i then ph_cn (tk i) ((ph_wk tk sc n ps (n - (i + 1))).1 (i + 1)) ((ph_wk tk sc n ps (n - (i + 1))).2 (i + 1)) ((ph_wk tk sc n ps (n - (i + 1))).2 (sc i)) else (ph_wk tk sc n ps (n - (i + 1))).2 j)
    rw [if_neg g, h2 j (by omega)]
    exact q2 z
theorem ph_R_n {tk sc : Nat → Nat} {n : Nat} {ps a8 a9 : Nat → Int32} : ph_R tk sc n ps n a8 a9 := fun j hj hn => absurd hn (by omega)
/-- the rows of a document's whole query, and its answer -/
def ph_E (n : Nat) (tk : Nat → Nat) (a3 : Nat → Int32) (d : Nat) : Nat → Nat → Int32 := (ph_wk tk (ph_sc tk n) n (fun w => a3 (d * 12 + w)) n).1
def ph_T (n : Nat) (tk : Nat → Nat) (a3 : Nat → Int32) (d : Nat) : Nat → Int32 := (ph_wk tk (ph_sc tk n) n (fun w => a3 (d * 12 + w)) n).2
def ph_hv (n : Nat) (tk : Nat → Nat) (a3 : Nat → Int32) (d : Nat) : Int32 := if 0 < n ∧ ph_st tk n = [] then (if ph_T n tk a3 d 0 = 0 then 0 else 1) else 0
theorem ph_E_lo {n : Nat} {tk : Nat → Nat} {a3 : Nat → Int32} {d j b : Nat} (hb : b < 24) : ph_lo (ph_E n tk a3 d j b) := ph_wk_lo _ _ _ _ _ j b hb
/-- a query that is one HAS over a span: its truth is that some row of the span isn't 0 -/
theorem ph_T_has {n : Nat} {tk : Nat → Nat} {a3 : Nat → Int32} {d : Nat} (hn : 0 < n) (h : tk 0 = 23) : ph_T n tk a3 d 0 = if ph_any (ph_E n tk a3 d 1) 24 = true then 1 else 0 := by
  obtain ⟨m, rfl⟩ : ∃ m, n = m + 1 := ⟨n - 1, by omega⟩
  have e := ph_wk_t (tk := tk) (sc := ph_sc tk (m + 1)) (n := m + 1) (m := m) (k := 0) (ps := fun w => a3 (d * 12 + w)) (by omega) (by omega)
  unfold ph_T ph_E
  rw [e]
  show (if 0 = 0 then ph_cn (tk 0) ((ph_wk tk (ph_sc tk (m + 1)) (m + 1) (fun w => a3 (d * 12 + w)) m).1 (0 + 1)) ((ph_wk tk (ph_sc tk (m + 1)) (m + 1) (fun w => a3 (d * 12 + w)) m).2 (0 + 1)) ((ph_wk tk (ph_sc tk (m + 1)) (m + 1) (fun w => a3 (d * 12 + w)) m).2 (ph_sc tk (m + 1) 0)) else (ph_wk tk (ph_sc tk (m + 1)) (m + 1) (fun w => a3 (d * 12 + w)) m).2 0) = _
  rw [if_pos rfl]
  unfold ph_cn
  rw [if_pos h]
end
section
/-! ===== read, ask, unask, complete ===== -/
def ph_K (n : Nat) (tk : Nat → Nat) (a4 : Nat → Int32) : Prop := n ≤ 12 ∧ (∀ j, j < n → a4 j = nI (tk j)) ∧ ph_V tk n
/-- the two arrays hold the stack, its top last -/
def ph_sr (a6 a7 : Nat → Int32) : List (Nat × Nat) → Prop
  | [] => True
  | (t, w) :: l => a6 l.length = nI t ∧ a7 l.length = nI w ∧ ph_sr a6 a7 l
theorem ph_sr_eq {a6 a7 b6 b7 : Nat → Int32} : ∀ {l : List (Nat × Nat)}, (∀ i, i < l.length → b6 i = a6 i) → (∀ i, i < l.length → b7 i = a7 i) → ph_sr a6 a7 l → ph_sr b6 b7 l
  | [], _, _, _ => trivial
  | (t, w) :: l, h6, h7, h => ⟨(h6 l.length (Nat.lt_succ_self _)).trans h.1, (h7 l.length (Nat.lt_succ_self _)).trans h.2.1, ph_sr_eq (fun i hi => h6 i (Nat.lt_succ_of_lt hi)) (fun i hi => h7 i (Nat.lt_succ_of_lt hi)) h.2.2⟩
theorem ph_wants {post : Int32 → Prop} {t : Nat} (ht : t < 128) (H : post (nI (ph_wt t))) : wpX_wants post () (nI t) := by
  unfold wpX_wants
  unfold ph_wt at H
  refine pk_le 12 t (fun h => ?_) (fun h => ?_)
  · rw [if_neg (by omega)] at H
    refine pk_eq t 22 (fun e => ?_) (fun e => pk_eq t 23 (fun e' => ?_) (fun e' => ?_))
    · rw [if_pos (Or.inl e)] at H; exact H
    · rw [if_pos (Or.inr e')] at H; exact H
    · rw [if_neg (by omega)] at H; exact H
  · rw [if_pos h] at H; exact H
theorem ph_isS {post : Int32 → Prop} {p : Nat} (hp : p < 128) (H1 : p ≤ 18 → post 1) (H0 : 18 < p → post 0) : wpX_isSpan post () (nI p) := by
  unfold wpX_isSpan
  exact br_f (nI_pos (by omega)) (pk_lt 18 p H0 H1)
theorem ph_isC {post : Int32 → Prop} {p : Nat} (hp : p < 128) (H1 : 20 ≤ p ∧ p ≤ 23 → post 1) (H0 : ¬ (20 ≤ p ∧ p ≤ 23) → post 0) : wpX_isCondition post () (nI p) := by
  unfold wpX_isCondition
  exact pk_lt p 20 (fun h => H0 (by omega)) (fun h => pk_lt 23 p (fun g => H0 (by omega)) (fun g => H1 ⟨h, g⟩))
theorem ph_isD {post : Int32 → Prop} {d : Nat} (hd : d < 6) (H : post 1) : wpX_isDocument post () (nI d) := by
  unfold wpX_isDocument
  exact br_f (nI_pos (by omega)) (br_f (nI_ge (b := 6) hd (by decide)) H)
theorem ph_isW {post : Int32 → Prop} {w : Nat} (hw : w < 12) (H : post 1) : wpX_isWord post () (nI w) := by
  unfold wpX_isWord
  exact br_f (nI_pos (by omega)) (br_f (nI_ge (b := 12) hw (by decide)) H)
section
variable {sz oc : Int32} {a1 a2 a3 a4 a5 a6 a7 a8 a9 : Nat → Int32}
theorem ph_at32 {post : St1 → Prop} {t w : Nat} {r : List (Nat × Nat)} (hs : ph_sr a6 a7 ((t, w) :: r)) (hr : r.length < 14) (hw : w = 1 ∨ w = 2)
    (H : ∀ b7, ph_sr a6 b7 (ph_at ((t, w) :: r)) → post (sz, nI (ph_at ((t, w) :: r)).length, a1, a2, a3, a4, a5, a6, b7, a8, a9)) :
    wX_attach_32 post (nI r.length) sz (nI (r.length + 1)) a1 a2 a3 a4 a5 a6 a7 a8 a9 := by
  unfold wX_attach_32
  obtain ⟨h6, h7, h8⟩ := hs
  rw [nI_clamp (show r.length < 2 ^ 31 by omega)]
  refine ⟨pk_in _ 14 hr, pk_in _ 14 hr, nm_e ⟨pk_in _ 14 hr, ?_⟩⟩
  rw [pk_us, h7]
  rcases hw with rfl | rfl
  · have e : ph_at ((t, 1) :: r) = r := rfl
    rw [e] at H
    refine br_t (by decide) (nm_r (nI_pred _) (H _ (ph_sr_eq (fun i hi => rfl) (fun i hi => pk_un (by omega)) h8)))
  · have e : ph_at ((t, 2) :: r) = (t, 1) :: r := rfl
    rw [e] at H
    refine br_f (by decide) (H _ ⟨h6, pk_us, ph_sr_eq (fun i hi => rfl) (fun i hi => pk_un (by omega)) h8⟩)
theorem ph_attach {post : St1 → Prop} {t w j : Nat} {r : List (Nat × Nat)} (hs : ph_sr a6 a7 ((t, w) :: r)) (hr : r.length < 14) (hw : w = 1 ∨ w = 2) (ht : t < 12) (hj : j < 12)
    (H : ∀ b5 b7, (∀ f : Nat → Nat, (∀ x, f x ≠ 0 → a5 x = nI (f x)) → ∀ x, ph_s1 ((t, w) :: r) j f x ≠ 0 → b5 x = nI (ph_s1 ((t, w) :: r) j f x)) → ph_sr a6 b7 (ph_at ((t, w) :: r)) → post (sz, nI (ph_at ((t, w) :: r)).length, a1, a2, a3, a4, b5, a6, b7, a8, a9)) :
    wpX_attach post (sz, nI (r.length + 1), a1, a2, a3, a4, a5, a6, a7, a8, a9) (nI j) := by
  unfold wpX_attach
  refine nm_r (nI_pred _) ⟨pk_in _ 14 hr, ?_⟩
  rw [nI_clamp (show r.length < 2 ^ 31 by omega), hs.1]
  refine pk_eq j (t + 1) (fun e => ?_) (fun e => ⟨pk_in _ 14 hr, pk_in t 12 ht, nm_e ?_⟩) (hy := nI_1 t)
  · refine ph_at32 hs hr hw (fun b7 h7 => H a5 b7 (fun f hf x hx => ?_) h7)
    have q : ph_s1 ((t, w) :: r) j f = f := if_pos e
    rw [q] at hx ⊢
    exact hf x hx
  · rw [nI_clamp (show t < 2 ^ 31 by omega), ph_i8 j (by omega)]
    refine ph_at32 hs hr hw (fun b7 h7 => H _ b7 (fun f hf x hx => ?_) h7)
    have q : ph_s1 ((t, w) :: r) j f = fun x => if x = t then j else f x := if_neg e
    rw [q] at hx ⊢
    by_cases g : x = t
    · rw [g, pk_us]
      show nI j = nI (if t = t then j else f t)
      rw [if_pos rfl]
    · have q2 : (fun x => if x = t then j else f x) x = f x := if_neg g
      rw [q2] at hx ⊢
      rw [pk_un g]
      exact hf x hx
theorem ph_read27 {post : St1 → Prop} {J : Int32 → Int32 → Int32 → (Nat → Int32) → (Nat → Int32) → (Nat → Int32) → (Nat → Int32) → (Nat → Int32) → (Nat → Int32) → (Nat → Int32) → (Nat → Int32) → (Nat → Int32) → Prop} {tk : Nat → Nat} {j : Nat} {l : List (Nat × Nat)}
    (hj : j < 12) (h4 : a4 j = nI (tk j)) (ht : tk j < 24) (hl : l.length < 14) (hs : ph_sr a6 a7 l)
    (H : ∀ b6 b7, ph_sr b6 b7 (ph_ps tk j l) → J (nI (j + 1)) sz (nI (ph_ps tk j l).length) a1 a2 a3 a4 a5 b6 b7 a8 a9) :
    wX_read_27 post J (nI j) sz (nI l.length) a1 a2 a3 a4 a5 a6 a7 a8 a9 := by
  unfold wX_read_27
  rw [nI_clamp (show j < 2 ^ 31 by omega), h4]
  refine ⟨pk_in j 12 hj, ph_wants (by omega) ?_⟩
  have hle := ph_wt_le (tk j)
  unfold ph_ps at H
  refine pk_le (ph_wt (tk j)) 0 (fun z => nm_r (nI_1 j) ?_) (fun z => ⟨pk_in _ 14 hl, nm_e ⟨pk_in _ 14 hl, nm_e (nm_r (nI_1 _) (nm_r (nI_1 j) ?_))⟩⟩)
  · rw [if_pos (by omega)] at H
    exact H a6 a7 hs
  · rw [if_neg (by omega)] at H
    refine H _ _ ⟨?_, ?_, ph_sr_eq (fun i hi => pk_un ?_) (fun i hi => pk_un ?_) hs⟩
    · rw [nI_clamp (by omega), pk_us, ph_i8 j (by omega)]
    · rw [nI_clamp (by omega), pk_us, ph_i8 _ (by omega)]
    · rw [nI_clamp (by omega)]; omega
    · rw [nI_clamp (by omega)]; omega
theorem ph_step {post : St1 → Prop} {f i n : Nat} {tk : Nat → Nat} (hK : ph_K n tk a4) (hi : i < n) (h5 : ∀ x, ph_sc tk i x ≠ 0 → a5 x = nI (ph_sc tk i x)) (h6 : ph_sr a6 a7 (ph_st tk i))
    (H : ∀ b5 b6 b7, (∀ x, ph_sc tk (i + 1) x ≠ 0 → b5 x = nI (ph_sc tk (i + 1) x)) → ph_sr b6 b7 (ph_st tk (i + 1)) → wX_read_7 post f (nI (i + 1)) (nI n) (nI (ph_st tk (i + 1)).length) a1 a2 a3 a4 b5 b6 b7 a8 a9) :
    wX_read_7 post (f + 1) (nI i) (nI n) (nI (ph_st tk i).length) a1 a2 a3 a4 a5 a6 a7 a8 a9 := by
  obtain ⟨hn, h4, hv⟩ := hK
  have hlen := ph_st_len tk i
  have htk : tk i < 24 := by rcases ph_V_tk hv hi with h | h <;> omega
  have es : ph_st tk (i + 1) = ph_ps tk i (ph_at (ph_st tk i)) := rfl
  have ec : ph_sc tk (i + 1) = ph_s1 (ph_st tk i) i (ph_sc tk i) := rfl
  rw [es, ec] at H
  refine pk_le n i (fun z => absurd z (by omega)) (fun _ => ?_)
  cases hl : ph_st tk i with
  | nil =>
    rw [hl] at H h6 hlen
    exact pk_le 0 0 (fun _ => ph_read27 (l := []) (by omega) (h4 i hi) htk (by decide) trivial (fun b6 b7 h => H a5 b6 b7 h5 h)) (fun z => absurd z (by omega))
  | cons q r =>
    obtain ⟨t, w⟩ := q
    have hm := ph_mem (show (t, w) ∈ ph_st tk i by rw [hl]; exact List.mem_cons_self ..)
    rw [hl] at H h6 hlen
    have hlen' : r.length + 1 ≤ i := hlen
    have hal := ph_at_len ((t, w) :: r)
    have hal' : (ph_at ((t, w) :: r)).length ≤ r.length + 1 := hal
    exact pk_le (r.length + 1) 0 (fun z => absurd z (by omega)) (fun _ => ph_attach h6 (by omega) hm.2.1 (by omega) (by omega) (fun b5 b7 g5 g7 => ph_read27 (l := ph_at ((t, w) :: r)) (by omega) (h4 i hi) htk (by omega) g7 (fun c6 c7 h => H b5 c6 c7 (g5 _ h5) h)))
theorem ph_read {post : St1 → Prop} {n : Nat} {tk : Nat → Nat} (hK : ph_K n tk a4)
    (H : ∀ b5 b6 b7, ph_sr b6 b7 (ph_st tk n) → (∀ x, ph_sc tk n x ≠ 0 → b5 x = nI (ph_sc tk n x)) → post (nI n, nI (ph_st tk n).length, a1, a2, a3, a4, b5, b6, b7, a8, a9)) :
    wpX_read post (nI n, oc, a1, a2, a3, a4, a5, a6, a7, a8, a9) := by
  unfold wpX_read
  have hn := hK.1
  exact pk_loop (σ := (Nat → Int32) × (Nat → Int32) × (Nat → Int32)) (fun f i s => wX_read_7 post f (nI i) (nI n) (nI (ph_st tk i).length) a1 a2 a3 a4 s.1 s.2.1 s.2.2 a8 a9)
    (fun i s => (∀ x, ph_sc tk i x ≠ 0 → s.1 x = nI (ph_sc tk i x)) ∧ ph_sr s.2.1 s.2.2 (ph_st tk i)) n 0 (a5, a6, a7) (by omega) ⟨fun x hx => absurd rfl hx, trivial⟩
    (fun f s h => pk_le n n (fun _ => H _ _ _ h.2 h.1) (fun z => absurd z (by omega)))
    (fun f i s hi h hw => ph_step hK hi h.1 h.2 (fun b5 b6 b7 g5 g6 => hw (b5, b6, b7) ⟨g5, g6⟩))
theorem ph_ask93 {post : Int32 → St1 → Prop} {n p : Nat} {z : Int32} (hn : n < 12) (hp : p < 32) (H0 : z = 0 → post (-1) (nI n, oc, a1, a2, a3, a4, a5, a6, a7, a8, a9))
    (H1 : ¬ z = 0 → post (nI (n + 1)) (nI (n + 1), oc, a1, a2, a3, upd a4 n (nI p), a5, a6, a7, a8, a9)) : wX_ask_93 post (nI p) z (nI n) oc a1 a2 a3 a4 a5 a6 a7 a8 a9 := by
  unfold wX_ask_93
  refine br_c H0 (fun h => ⟨pk_in n 12 hn, nm_r ?_ (nm_r (nI_1 n) (H1 h))⟩)
  rw [nI_clamp (by omega), ph_i8 p (by omega)]
theorem ph_ask58 {post : Int32 → St1 → Prop} {n p q : Nat} (hn : n < 12) (hp : p < 32) (hq : q < 128) (H0 : ¬ ph_gd q p → post (-1) (nI n, oc, a1, a2, a3, a4, a5, a6, a7, a8, a9))
    (H1 : ph_gd q p → post (nI (n + 1)) (nI (n + 1), oc, a1, a2, a3, upd a4 n (nI p), a5, a6, a7, a8, a9)) : wX_ask_58 post (nI p) (nI q) (nI n) oc a1 a2 a3 a4 a5 a6 a7 a8 a9 := by
  have A : (q = 23 ∨ q ≤ 18) → wX_ask_72 post (nI p) (nI n) oc a1 a2 a3 a4 a5 a6 a7 a8 a9 := by
    intro hq'
    unfold ph_gd at H0 H1
    rw [if_pos hq'] at H0 H1
    unfold wX_ask_72 wX_ask_77
    exact br_f (by decide) (ph_isS (by omega) (fun h => ph_ask93 hn hp (fun z => absurd z (by decide)) (fun _ => H1 h)) (fun h => ph_ask93 hn hp (fun _ => H0 (by omega)) (fun z => absurd rfl z)))
  have B : ¬ (q = 23 ∨ q ≤ 18) → wX_ask_77 post (nI p) 0 (nI n) oc a1 a2 a3 a4 a5 a6 a7 a8 a9 := by
    intro hq'
    unfold ph_gd at H0 H1
    rw [if_neg hq'] at H0 H1
    unfold wX_ask_77
    exact br_t rfl (ph_isC (by omega) (fun h => ph_ask93 hn hp (fun z => absurd z (by decide)) (fun _ => H1 h)) (fun h => ph_ask93 hn hp (fun _ => H0 h) (fun z => absurd rfl z)))
  unfold wX_ask_58
  exact pk_eq q 23 (fun e => A (Or.inl e)) (fun e => ph_isS hq (fun h => br_f (by decide) (A (Or.inr h))) (fun h => br_t rfl (B (by omega))))
theorem ph_ask30 {post : Int32 → St1 → Prop} {n p : Nat} {tk : Nat → Nat} (hn : n < 12) (hp : p < 32) (hK : ph_K n tk a4) (hs : ph_sr a6 a7 (ph_st tk n)) (H0 : ¬ ph_gd (ph_top tk (ph_st tk n)) p → post (-1) (nI n, nI (ph_st tk n).length, a1, a2, a3, a4, a5, a6, a7, a8, a9))
    (H1 : ph_gd (ph_top tk (ph_st tk n)) p → post (nI (n + 1)) (nI (n + 1), nI (ph_st tk n).length, a1, a2, a3, upd a4 n (nI p), a5, a6, a7, a8, a9)) : wX_ask_30 post (nI p) (nI n) (nI (ph_st tk n).length) a1 a2 a3 a4 a5 a6 a7 a8 a9 := by
  have hlen := ph_st_len tk n
  unfold wX_ask_30
  cases hl : ph_st tk n with
  | nil =>
    rw [hl] at H0 H1
    exact pk_le 0 0 (fun _ => ph_ask58 (q := 20) hn hp (by decide) H0 H1) (fun z => absurd z (by omega))
  | cons q r =>
    obtain ⟨t, w⟩ := q
    have hm := ph_mem (show (t, w) ∈ ph_st tk n by rw [hl]; exact List.mem_cons_self ..)
    rw [hl] at H0 H1 hs hlen
    have hlen' : r.length + 1 ≤ n := hlen
    have htk : tk t < 24 := by rcases ph_V_tk hK.2.2 hm.1 with h | h <;> omega
    show (nI (r.length + 1) ≤ 0 → _) ∧ (¬ nI (r.length + 1) ≤ 0 → vp_in (nI (r.length + 1) - 1) 14 ∧ (vp_in (a6 (nI (r.length + 1) - 1).toNatClampNeg) 12 ∧ wX_ask_58 post (nI p) (a4 (a6 (nI (r.length + 1) - 1).toNatClampNeg).toNatClampNeg) (nI n) (nI (r.length + 1)) a1 a2 a3 a4 a5 a6 a7 a8 a9))
    rw [nI_pred, nI_clamp (show r.length < 2 ^ 31 by omega), hs.1, nI_clamp (show t < 2 ^ 31 by omega), hK.2.1 t hm.1]
    exact pk_le (r.length + 1) 0 (fun z => absurd z (by omega)) (fun _ => ⟨pk_in r.length 14 (by omega), pk_in t 12 (by omega), ph_ask58 (q := tk t) hn hp (by omega) H0 H1⟩)
theorem ph_ask {post : Int32 → St1 → Prop} {n p : Nat} {tk : Nat → Nat} (hp : p < 32) (hK : ph_K n tk a4)
    (H0 : ¬ (n < 12 ∧ (n = 0 ∨ ph_st tk n ≠ []) ∧ ph_gd (ph_top tk (ph_st tk n)) p) → ∀ r c b5 b6 b7, post r (nI n, c, a1, a2, a3, a4, b5, b6, b7, a8, a9))
    (H1 : n < 12 → (n = 0 ∨ ph_st tk n ≠ []) → ph_gd (ph_top tk (ph_st tk n)) p → ∀ c b5 b6 b7, post (nI (n + 1)) (nI (n + 1), c, a1, a2, a3, upd a4 n (nI p), b5, b6, b7, a8, a9)) :
    wpX_ask post (nI n, oc, a1, a2, a3, a4, a5, a6, a7, a8, a9) (nI p) := by
  have hn := hK.1
  have hlen := ph_st_len tk n
  unfold wpX_ask
  refine ph_read hK (fun b5 b6 b7 hs h5 => ?_)
  refine pk_le 12 n (fun z => H0 (fun q => absurd q.1 (by omega)) _ _ _ _ _) (fun z => pk_le n 0 (fun z0 => ?_) (fun z0 => pk_eq (ph_st tk n).length 0 (fun e => ?_) (fun e => ?_)))
  · exact ph_ask30 z hp hK hs (fun g => H0 (fun q => g q.2.2) _ _ _ _ _) (fun g => H1 z (Or.inl (by omega)) g _ _ _ _)
  · have e' : ph_st tk n = [] := List.eq_nil_of_length_eq_zero e
    exact H0 (fun q => q.2.1.elim (fun u => absurd u (by omega)) (fun u => u e')) _ _ _ _ _
  · have e' : ph_st tk n ≠ [] := fun u => e (by rw [u]; rfl)
    exact ph_ask30 z hp hK hs (fun g => H0 (fun q => g q.2.2) _ _ _ _ _) (fun g => H1 z (Or.inr e') g _ _ _ _)
theorem ph_unask0 {post : Int32 → St1 → Prop} (H : post (-1) (nI 0, oc, a1, a2, a3, a4, a5, a6, a7, a8, a9)) : wpX_unask post (nI 0, oc, a1, a2, a3, a4, a5, a6, a7, a8, a9) := by
  unfold wpX_unask
  exact br_t rfl H
theorem ph_unask1 {post : Int32 → St1 → Prop} {m : Nat} (hm : m < 12) (H : post (a4 m) (nI m, oc, a1, a2, a3, a4, a5, a6, a7, a8, a9)) : wpX_unask post (nI (m + 1), oc, a1, a2, a3, a4, a5, a6, a7, a8, a9) := by
  unfold wpX_unask
  refine br_f (nI_ne0 (by omega) (by omega)) (nm_r (nI_pred m) ⟨pk_in m 12 hm, ?_⟩)
  rw [nI_clamp (by omega)]
  exact H
theorem ph_complete {post : Int32 → St1 → Prop} {n : Nat} {tk : Nat → Nat} (hK : ph_K n tk a4)
    (H0 : ¬ ph_C tk n → ∀ c b5 b6 b7, post 0 (nI n, c, a1, a2, a3, a4, b5, b6, b7, a8, a9))
    (H1 : ph_C tk n → ∀ c b5 b6 b7, (∀ x, ph_sc tk n x ≠ 0 → b5 x = nI (ph_sc tk n x)) → post 1 (nI n, c, a1, a2, a3, a4, b5, b6, b7, a8, a9)) :
    wpX_complete post (nI n, oc, a1, a2, a3, a4, a5, a6, a7, a8, a9) := by
  have hn := hK.1
  have hlen := ph_st_len tk n
  unfold wpX_complete
  refine ph_read hK (fun b5 b6 b7 hs h5 => ?_)
  refine pk_le n 0 (fun z => H0 (fun q => absurd q.1 (by omega)) _ _ _ _) (fun z => pk_eq (ph_st tk n).length 0 (fun e => ?_) (fun e => ?_))
  · exact H1 ⟨z, List.eq_nil_of_length_eq_zero e⟩ _ _ _ _ h5
  · exact H0 (fun q => e (by rw [q.2]; rfl)) _ _ _ _
end
end
section
/-! ===== word, combine, condition, work, holds ===== -/
theorem ph_ix (k i : Nat) : nI k * 24 + nI i = nI (k * 24 + i) := by
  show nI k * nI 24 + nI i = _
  rw [pk_mul, nI_add]
theorem ph_iy (d w : Nat) : nI d * 12 + nI w = nI (d * 12 + w) := by
  show nI d * nI 12 + nI w = _
  rw [pk_mul, nI_add]
theorem ph_m1 (i : Nat) : nI i + (-1) = nI i - 1 := (Int32.sub_eq_add_neg _ _).symm
theorem ph_fill {s a f : Nat → Int32} {k i : Nat} {v : Int32} (hv : v = f i) (h1 : ∀ b, b < i → s (k + b) = f b) (h2 : ∀ j, (j < k ∨ k + i ≤ j) → s j = a j) :
    (∀ b, b < i + 1 → upd s (k + i) v (k + b) = f b) ∧ (∀ j, (j < k ∨ k + (i + 1) ≤ j) → upd s (k + i) v j = a j) := by
  refine ⟨fun b hb => ?_, fun j hj => ?_⟩
  · by_cases e : b = i
    · rw [e, pk_us, hv]
    · rw [pk_un (by omega)]
      exact h1 b (by omega)
  · rw [pk_un (by omega)]
    exact h2 j (by omega)
theorem ph_cn01 (t : Nat) (r : Nat → Int32) (f g : Int32) : ph_cn t r f g = 0 ∨ ph_cn t r f g = 1 := by
  unfold ph_cn
  repeat' split
  all_goals first | exact Or.inl rfl | exact Or.inr rfl
theorem ph_nar {r : Int32} (h : r = 0 ∨ r = 1) : vp_nar .boolean r = r := by
  rcases h with rfl | rfl
  · decide
  · decide
theorem ph_greatest {post : Int32 → Prop} {x : Int32} (H : post (ph_gq x 24)) : wpX_greatest post () x := by
  unfold wpX_greatest
  have key : ∀ i, i ≤ 24 → post (ph_gq x i) → wX_greatest_3 post x (i + 1) (nI i - 1) := by
    intro i
    induction i with
    | zero => intro _ h; exact br_t (by decide) h
    | succ i ih =>
      intro hi h
      rw [nI_pred]
      refine br_f (nI_pos (by omega)) (br_c (fun g => nm_r (ph_m1 i) (ih (by omega) ?_)) (fun g => ?_))
      · have e : ph_gq x (i + 1) = ph_gq x i := if_pos g
        rw [e] at h; exact h
      · have e : ph_gq x (i + 1) = nI i := if_neg g
        rw [e] at h; exact h
  have e : nI 24 - 1 = 23 := by decide
  have k24 := key 24 (by omega) H
  rw [e] at k24
  exact ⟨25, k24⟩
section
variable {sz oc : Int32} {a1 a2 a3 a4 a5 a6 a7 a8 a9 : Nat → Int32}
theorem ph_word {post : St1 → Prop} {k : Nat} {x : Int32} (hk : k < 12)
    (H : ∀ b8, (∀ b, b < 24 → b8 (k * 24 + b) = x &&& ((1 : Int32) <<< (nI b &&& 31))) → (∀ j, (j < k * 24 ∨ k * 24 + 24 ≤ j) → b8 j = a8 j) → post (sz, oc, a1, a2, a3, a4, a5, a6, a7, b8, a9)) :
    wpX_word post (sz, oc, a1, a2, a3, a4, a5, a6, a7, a8, a9) (nI k) x := by
  unfold wpX_word
  refine pk_loop (fun f i s => wX_word_2 post (nI k) x sz oc f (nI i) a1 a2 a3 a4 a5 a6 a7 s a9)
    (fun i s => (∀ b, b < i → s (k * 24 + b) = (fun b => x &&& ((1 : Int32) <<< (nI b &&& 31))) b) ∧ (∀ j, (j < k * 24 ∨ k * 24 + i ≤ j) → s j = a8 j)) 24 0 a8 (by omega) ⟨fun b hb => absurd hb (by omega), fun j _ => rfl⟩
    (fun f s h => pk_le 24 24 (fun _ => H s h.1 h.2) (fun z => absurd z (by omega)))
    (fun f i s hi h hw => pk_le 24 i (fun z => absurd z (by omega)) (fun _ => ⟨pk_in (k * 24 + i) 288 (by omega) (ph_ix k i), nm_r ?_ (nm_r (nI_1 i) (hw _ (ph_fill (v := x &&& ((1 : Int32) <<< (nI i &&& 31))) rfl h.1 h.2)))⟩))
  rw [pk_cl (k * 24 + i) (ph_ix k i)]
theorem ph_goOn {post : Int32 → Prop} {x : Int32} {ds s : Nat} (hd : ds ≤ 24) (hs : s < 12) (H : post (ph_go x ds (fun c => a8 (s * 24 + c)) (24 - ds))) :
    wpX_goOn post (sz, oc, a1, a2, a3, a4, a5, a6, a7, a8, a9) x (nI ds) (nI (s * 24)) := by
  unfold wpX_goOn
  refine pk_loop (σ := Unit) (fun f i _ => wX_goOn_6 post x (nI ds) (nI (s * 24)) sz oc a1 a2 a3 a4 a5 a6 a7 a8 a9 f (ph_go x ds (fun c => a8 (s * 24 + c)) i) (nI i)) (fun _ _ => True) (24 - ds) 0 () (by omega) trivial
    (fun f _ _ => pk_le 24 (24 - ds + ds) (fun _ => H) (fun z => absurd z (by omega)) (hy := nI_add _ _))
    (fun f i _ hi _ hw => pk_le 24 (i + ds) (fun z => absurd z (by omega)) (fun _ => br_c (fun g => nm_r (nI_1 i) ?_) (fun g => ⟨pk_in (s * 24 + i + ds) 288 (by omega) (by rw [nI_add, nI_add]), nm_e (nm_r (nI_1 i) ?_)⟩)) (hy := nI_add _ _))
  · have t := hw () trivial
    have e : ph_go x ds (fun c => a8 (s * 24 + c)) (i + 1) = ph_go x ds (fun c => a8 (s * 24 + c)) i := if_pos g
    try dsimp only at t
    rw [e] at t
    exact t
  · have t := hw () trivial
    have e : ph_go x ds (fun c => a8 (s * 24 + c)) (i + 1) = ph_go x ds (fun c => a8 (s * 24 + c)) i ||| a8 (s * 24 + (i + ds)) := if_neg g
    try dsimp only at t
    rw [e] at t
    rw [nI_add, nI_add, nI_clamp (by omega), Nat.add_assoc]
    exact t
theorem ph_combine {post : St1 → Prop} {k t s : Nat} (hk : k + 1 < 12) (ht : 12 ≤ t) (ht' : t ≤ 18) (hs : k < s) (hs' : s < 12) (h5 : a5 k = nI s)
    (H : ∀ b8, (∀ b, b < 24 → b8 (k * 24 + b) = ph_cm t (fun c => a8 ((k + 1) * 24 + c)) (fun c => a8 (s * 24 + c)) b) → (∀ j, (j < k * 24 ∨ k * 24 + 24 ≤ j) → b8 j = a8 j) → post (sz, oc, a1, a2, a3, a4, a5, a6, a7, b8, a9)) :
    wpX_combine post (sz, oc, a1, a2, a3, a4, a5, a6, a7, a8, a9) (nI k) (nI t) := by
  unfold wpX_combine
  have e1 : (nI k + 1) * 24 = nI ((k + 1) * 24) := by rw [nI_1]; exact pk_mul _ 24
  refine nm_r e1 ⟨pk_in k 12 (by omega), ?_⟩
  rw [nI_clamp (show k < 2 ^ 31 by omega), h5]
  refine nm_r (pk_mul s 24) ?_
  refine pk_loop (σ := Int32 × (Nat → Int32)) (fun f i q => wX_combine_24 post (nI k) (nI t) (nI ((k + 1) * 24)) (nI (s * 24)) sz oc f q.1 (nI i) a1 a2 a3 a4 a5 a6 a7 q.2 a9)
    (fun i q => q.1 = (if t = 18 then ph_far (fun c => a8 (s * 24 + c)) i else -1) ∧ (∀ b, b < i → q.2 (k * 24 + b) = ph_cm t (fun c => a8 ((k + 1) * 24 + c)) (fun c => a8 (s * 24 + c)) b) ∧ (∀ j, (j < k * 24 ∨ k * 24 + i ≤ j) → q.2 j = a8 j))
    24 0 (-1, a8) (by omega) ⟨?_, fun b hb => absurd hb (by omega), fun j _ => rfl⟩
    (fun f q h => pk_le 24 24 (fun _ => H q.2 h.2.1 h.2.2) (fun z => absurd z (by omega)))
    (fun f i q hi h hw => pk_le 24 i (fun z => absurd z (by omega)) (fun _ => ?_))
  · show (-1 : Int32) = if t = 18 then -1 else -1
    by_cases e : t = 18
    · rw [if_pos e]
    · rw [if_neg e]
  · obtain ⟨x5, c8⟩ := q
    obtain ⟨h1, h2, h3⟩ := h
    dsimp only at h1 h2 h3
    show vp_in (nI ((k + 1) * 24) + nI i) 288 ∧ _
    have r1 : c8 ((k + 1) * 24 + i) = a8 ((k + 1) * 24 + i) := h3 _ (by omega)
    have r2 : ∀ c, c < 24 → c8 (s * 24 + c) = a8 (s * 24 + c) := fun c hc => h3 _ (by omega)
    have P : ∀ v y, v = ph_cm t (fun c => a8 ((k + 1) * 24 + c)) (fun c => a8 (s * 24 + c)) i → y = (if t = 18 then ph_far (fun c => a8 (s * 24 + c)) (i + 1) else -1) →
        wX_combine_130 post (wX_combine_24 post (nI k) (nI t) (nI ((k + 1) * 24)) (nI (s * 24)) sz oc f) (nI k) (nI t) (nI ((k + 1) * 24)) (nI (s * 24)) y (nI i) v sz oc a1 a2 a3 a4 a5 a6 a7 c8 a9 := by
      intro v y hv hy
      unfold wX_combine_130
      refine ⟨pk_in (k * 24 + i) 288 (by omega) (ph_ix k i), nm_e (nm_r (nI_1 i) ?_)⟩
      rw [pk_cl (k * 24 + i) (ph_ix k i)]
      exact hw (y, _) ⟨hy, ph_fill hv h2 h3⟩
    refine ⟨pk_in ((k + 1) * 24 + i) 288 (by omega) (nI_add _ _), nm_r (show _ = a8 ((k + 1) * 24 + i) by rw [nI_add, nI_clamp (by omega)]; exact r1) ?_⟩
    have p2 : vp_in (nI (s * 24) + nI i) 288 := pk_in (s * 24 + i) 288 (by omega) (nI_add _ _)
    have e2 : c8 (nI (s * 24) + nI i).toNatClampNeg = a8 (s * 24 + i) := by rw [nI_add, nI_clamp (by omega)]; exact r2 i hi
    refine pk_eq t 12 (fun e => ⟨p2, nm_e (P _ _ ?_ ?_)⟩) (fun e => pk_eq t 18 (fun g => ⟨p2, ph_greatest ?_⟩) (fun g => ?_))
    · dsimp only
      rw [e2]
      unfold ph_cm
      rw [if_pos e]
    · rw [h1, if_neg (by omega), if_neg (by omega)]
    · dsimp only
      rw [e2]
      have f1 : ph_far (fun c => a8 (s * 24 + c)) (i + 1) = if ph_gq (a8 (s * 24 + i)) 24 ≤ ph_far (fun c => a8 (s * 24 + c)) i then ph_far (fun c => a8 (s * 24 + c)) i else ph_gq (a8 (s * 24 + i)) 24 := rfl
      rw [if_pos g] at h1
      have Q : ∀ y, y = ph_far (fun c => a8 (s * 24 + c)) (i + 1) → wX_combine_101 post (wX_combine_24 post (nI k) (nI t) (nI ((k + 1) * 24)) (nI (s * 24)) sz oc f) (nI k) (nI t) (nI ((k + 1) * 24)) (nI (s * 24)) (nI i) (a8 ((k + 1) * 24 + i)) y sz oc a1 a2 a3 a4 a5 a6 a7 c8 a9 := by
        intro y hy
        unfold wX_combine_101 wpX_upTo
        refine nm_e (P _ _ ?_ ?_)
        · unfold ph_cm
          rw [if_neg e, if_pos g, hy]
        · rw [if_pos g]; exact hy
      refine br_c (fun z => Q _ ?_) (fun z => Q _ ?_)
      · rw [h1] at z ⊢
        rw [f1, if_pos z]
      · rw [h1] at z
        rw [f1, if_neg z]
    · have e3 : nI t - 13 = nI (t - 13) := pk_sub (b := 13) (by omega)
      rw [e3]
      refine ph_goOn (by omega) hs' (P _ _ ?_ ?_)
      · unfold ph_cm
        rw [if_neg e, if_neg g]
        exact ph_go_eq (fun c hc => r2 _ (by omega))
      · rw [h1, if_neg g, if_neg g]
theorem ph_firstB {post : Int32 → Prop} {k p : Nat} (hk : k < 12) (hp : p ≤ 24)
    (H1 : ∀ b, p ≤ b → b < 24 → a8 (k * 24 + b) ≠ 0 → (∀ c, p ≤ c → c < b → a8 (k * 24 + c) = 0) → post (nI b)) (H0 : (∀ c, p ≤ c → c < 24 → a8 (k * 24 + c) = 0) → post (-1)) :
    wpX_firstBegin post (sz, oc, a1, a2, a3, a4, a5, a6, a7, a8, a9) (nI k) (nI p) := by
  unfold wpX_firstBegin
  refine br_t (nI_pos' (by omega)) ?_
  refine pk_loop (σ := Unit) (fun f i _ => wX_firstBegin_10 post (nI k) sz oc a1 a2 a3 a4 a5 a6 a7 a8 a9 f (nI i)) (fun i _ => p ≤ i ∧ ∀ c, p ≤ c → c < i → a8 (k * 24 + c) = 0) 24 p () hp ⟨Nat.le_refl p, fun c h1 h2 => absurd h1 (by omega)⟩
    (fun f _ h => pk_le 24 24 (fun _ => H0 h.2) (fun z => absurd z (by omega)))
    (fun f i _ hi h hw => pk_le 24 i (fun z => absurd z (by omega)) (fun _ => ⟨pk_in (k * 24 + i) 288 (by omega) (ph_ix k i), ?_⟩))
  rw [pk_cl (k * 24 + i) (ph_ix k i)]
  refine br_c (fun g => nm_r (nI_1 i) (hw () ⟨by omega, fun c c1 c2 => ?_⟩)) (fun g => H1 i h.1 hi g h.2)
  by_cases e : c = i
  · rw [e]; exact g
  · exact h.2 c c1 (by omega)
theorem ph_cond {post : Int32 → Prop} {k t s : Nat} (hk : k + 1 < 12) (ht : 20 ≤ t) (ht' : t ≤ 23) (hs : ¬ t = 23 → ¬ t = 22 → s < 12 ∧ a5 k = nI s)
    (H : post (ph_cn t (fun c => a8 ((k + 1) * 24 + c)) (a9 (k + 1)) (a9 s))) : wpX_condition post (sz, oc, a1, a2, a3, a4, a5, a6, a7, a8, a9) (nI k) (nI t) := by
  unfold wpX_condition
  rw [nI_1, nI_clamp (show k + 1 < 2 ^ 31 by omega), nI_clamp (show k < 2 ^ 31 by omega)]
  refine ⟨pk_in (k + 1) 12 hk, nm_e ?_⟩
  unfold ph_cn at H
  refine pk_eq t 23 (fun e => ?_) (fun e => ?_)
  · rw [if_pos e] at H
    refine ph_firstB (p := 0) hk (by omega) (fun b _ hb hne _ => br_f (nI_pos (by omega)) ?_) (fun h0 => br_t (by decide) ?_)
    · rw [if_pos (ph_any_t.mpr ⟨b, hb, hne⟩)] at H
      exact H
    · rw [if_neg (ph_any_f (fun b hb => h0 b (Nat.zero_le b) hb))] at H
      exact H
  · rw [if_neg e] at H
    refine pk_eq t 22 (fun e2 => ?_) (fun e2 => ?_)
    · rw [if_pos e2] at H
      refine br_c (fun z => ?_) (fun z => ?_)
      · rw [if_pos z] at H; exact H
      · rw [if_neg z] at H; exact H
    · rw [if_neg e2] at H
      obtain ⟨hs1, hs2⟩ := hs e e2
      rw [hs2, nI_clamp (show s < 2 ^ 31 by omega)]
      refine pk_eq t 20 (fun e3 => ?_) (fun e3 => ?_)
      · rw [if_pos e3] at H
        refine br_c (fun z => ?_) (fun z => ⟨pk_in k 12 (by omega), pk_in s 12 hs1, br_c (fun y => ?_) (fun y => ?_)⟩)
        · rw [if_pos z] at H; exact H
        · rw [if_neg z, if_pos y] at H; exact H
        · rw [if_neg z, if_neg y] at H; exact H
      · rw [if_neg e3] at H
        refine br_c (fun z => ⟨pk_in k 12 (by omega), pk_in s 12 hs1, br_c (fun y => ?_) (fun y => ?_)⟩) (fun z => ?_)
        · rw [if_pos z, if_pos y] at H; exact H
        · rw [if_pos z, if_neg y] at H; exact H
        · rw [if_neg z] at H; exact H
/-- behind a work: the rows and truths of the document -/
def ph_W (n : Nat) (tk : Nat → Nat) (a3 : Nat → Int32) (d : Nat) (b8 b9 : Nat → Int32) : Prop := ∀ j, j < n → (tk j ≤ 18 → ∀ b, b < 24 → b8 (j * 24 + b) = ph_E n tk a3 d j b) ∧ (20 ≤ tk j → b9 j = ph_T n tk a3 d j)
theorem ph_work16 {post : Int32 → St1 → Prop} {n d : Nat} {tk : Nat → Nat} (hK : ph_K n tk a4) (hd : d < 6) (hC : ph_C tk n) (h5 : ∀ x, ph_sc tk n x ≠ 0 → a5 x = nI (ph_sc tk n x))
    (H : ∀ b8 b9, ph_W n tk a3 d b8 b9 → post 1 (nI n, oc, a1, a2, a3, a4, a5, a6, a7, b8, b9)) :
    ∀ i, i ≤ n → ∀ b8 b9, ph_R tk (ph_sc tk n) n (fun w => a3 (d * 12 + w)) i b8 b9 → wX_work_16 post (nI d) (i + 1) (nI i - 1) (nI n) oc a1 a2 a3 a4 a5 a6 a7 b8 b9 := by
  obtain ⟨hn, h4, hv⟩ := hK
  intro i
  induction i with
  | zero =>
    intro _ b8 b9 hR
    exact br_t (by decide) (H b8 b9 (fun j hj => hR j (Nat.zero_le j) hj))
  | succ i ih =>
    intro hi b8 b9 hR
    have hin : i < n := by omega
    have htk := ph_V_tk hv hin
    rw [nI_pred]
    refine br_f (nI_pos (by omega)) ⟨pk_in i 12 (by omega), nm_r (show a4 (nI i).toNatClampNeg = nI (tk i) by rw [nI_clamp (by omega)]; exact h4 i hin) ?_⟩
    refine pk_le 12 (tk i) (fun h12 => ph_isS (by omega) (fun h18 => br_f (by decide) ?_) (fun h18 => br_t rfl ?_)) (fun h12 => ⟨pk_in (d * 12 + tk i) 72 (by omega) (ph_iy d (tk i)), ?_⟩)
    · obtain ⟨s1, s2, s3⟩ := ph_C_two hv hC hin (ph_wt2.mpr ⟨h12, by omega, by omega⟩)
      have s4 := ph_gd_s s3 (Or.inr h18)
      have s5 := ph_gd_s (ph_C_one hv hC hin h12) (Or.inr h18)
      have s6 := ph_C_last hC hin h12
      refine ph_combine (s := ph_sc tk n i) (by omega) h12 h18 s1 (by omega) (h5 i (by omega)) (fun c8 g1 g2 => nm_r (ph_m1 i) (ih (by omega) c8 b9 ?_))
      exact ph_R_c s6 h12 h18 s5 s1 s2 s4 hR g1 (fun j hj b hb => g2 _ (by omega))
    · have h20 : 20 ≤ tk i ∧ tk i ≤ 23 := by omega
      have s5 := ph_C_one hv hC hin h12
      have s6 := ph_C_last hC hin h12
      have s7 : ¬ tk i = 23 → ¬ tk i = 22 → i < ph_sc tk n i ∧ ph_sc tk n i < n ∧ 20 ≤ tk (ph_sc tk n i) := by
        intro e3 e2
        obtain ⟨q1, q2, q3⟩ := ph_C_two hv hC hin (ph_wt2.mpr ⟨h12, e2, e3⟩)
        exact ⟨q1, q2, (ph_gd_c q3 (by omega)).1⟩
      refine ph_cond (s := ph_sc tk n i) (by omega) h20.1 h20.2 (fun e3 e2 => ⟨by have := s7 e3 e2; omega, h5 i (by have := s7 e3 e2; omega)⟩) ⟨pk_in i 12 (by omega), nm_e (nm_r (ph_m1 i) ?_)⟩
      rw [nI_clamp (by omega), ph_nar (ph_cn01 _ _ _ _)]
      refine ih (by omega) b8 _ ?_
      exact ph_R_t s6 h20.1 (fun e3 => ph_gd_s s5 (Or.inl e3)) (fun e3 => (ph_gd_c s5 (by omega)).1) s7 hR pk_us (fun j hj => pk_un (by omega))
    · rw [pk_cl (d * 12 + tk i) (ph_iy d (tk i))]
      refine ph_word (by omega) (fun c8 g1 g2 => nm_r (ph_m1 i) (ih (by omega) c8 b9 ?_))
      exact ph_R_w hin h12 hR g1 (fun j hj b hb => g2 _ (by omega))
theorem ph_work {post : Int32 → St1 → Prop} {n d : Nat} {tk : Nat → Nat} (hK : ph_K n tk a4) (hd : d < 6)
    (H0 : ¬ ph_C tk n → ∀ c b5 b6 b7 b8 b9, post 0 (nI n, c, a1, a2, a3, a4, b5, b6, b7, b8, b9))
    (H1 : ph_C tk n → ∀ c b5 b6 b7 b8 b9, ph_W n tk a3 d b8 b9 → post 1 (nI n, c, a1, a2, a3, a4, b5, b6, b7, b8, b9)) :
    wpX_work post (nI n, oc, a1, a2, a3, a4, a5, a6, a7, a8, a9) (nI d) := by
  unfold wpX_work
  refine ph_complete hK (fun hC c b5 b6 b7 => br_t rfl (H0 hC _ _ _ _ _ _)) (fun hC c b5 b6 b7 h5 => br_f (by decide) (nm_e ⟨n + 1, ?_⟩))
  exact ph_work16 hK hd hC h5 (fun b8 b9 hW => H1 hC _ _ _ _ _ _ hW) n (Nat.le_refl n) a8 a9 ph_R_n
theorem ph_holds {post : Int32 → St1 → Prop} {n d : Nat} {tk : Nat → Nat} (hK : ph_K n tk a4) (hd : d < 6)
    (H : ∀ c b5 b6 b7 b8 b9, post (ph_hv n tk a3 d) (nI n, c, a1, a2, a3, a4, b5, b6, b7, b8, b9)) :
    wpX_holds post (nI n, oc, a1, a2, a3, a4, a5, a6, a7, a8, a9) (nI d) := by
  unfold wpX_holds
  unfold ph_hv at H
  refine ph_isD hd (br_f (by decide) (ph_work hK hd (fun hC c b5 b6 b7 b8 b9 => br_t rfl ?_) (fun hC c b5 b6 b7 b8 b9 hW => br_f (by decide) ?_)))
  · rw [if_neg (show ¬ (0 < n ∧ ph_st tk n = []) from hC)] at H
    exact H _ _ _ _ _ _
  · rw [if_pos (show 0 < n ∧ ph_st tk n = [] from hC)] at H
    have e := (hW 0 hC.1).2 (ph_V_0 hK.2.2 hC.1).1
    rw [e]
    refine br_c (fun z => ?_) (fun z => ?_)
    · rw [if_pos z] at H; exact H _ _ _ _ _ _
    · rw [if_neg z] at H; exact H _ _ _ _ _ _
end
end
section
/-! ===== the answers: hasTokens, matching, words, spanOf, spans, begins, ends ===== -/
def ph_ct (tk : Nat → Nat) : Nat → Nat
  | 0 => 0
  | j + 1 => ph_ct tk j + (if tk j = 23 then 1 else 0)
theorem ph_ct_mono {tk : Nat → Nat} {i j : Nat} (h : i ≤ j) : ph_ct tk i ≤ ph_ct tk j := by
  induction j with
  | zero => rw [show i = 0 by omega]; exact Nat.le_refl _
  | succ j ih =>
    by_cases e : i = j + 1
    · rw [e]; exact Nat.le_refl _
    · exact Nat.le_trans (ih (by omega)) (Nat.le_add_right _ _)
theorem ph_ct_le (tk : Nat → Nat) (j : Nat) : ph_ct tk j ≤ j := by
  induction j with
  | zero => exact Nat.le_refl _
  | succ j ih =>
    show ph_ct tk j + (if tk j = 23 then 1 else 0) ≤ j + 1
    by_cases e : tk j = 23
    · rw [if_pos e]; omega
    · rw [if_neg e]; omega
theorem ph_ct_at {tk : Nat → Nat} {n k : Nat} (h : k < ph_ct tk n) : ∃ p, p < n ∧ tk p = 23 ∧ ph_ct tk p = k := by
  induction n with
  | zero => exact absurd h (Nat.not_lt_zero _)
  | succ n ih =>
    by_cases g : k < ph_ct tk n
    · obtain ⟨p, h1, h2⟩ := ih g
      exact ⟨p, by omega, h2⟩
    · have h' : k < ph_ct tk n + (if tk n = 23 then 1 else 0) := h
      by_cases e : tk n = 23
      · rw [if_pos e] at h'
        exact ⟨n, by omega, e, by omega⟩
      · rw [if_neg e] at h'
        exact absurd h' (by omega)
/-- a set of places d, one bit each -/
def ph_ms (f : Nat → Int32) : Nat → Int32
  | 0 => 0
  | d + 1 => if f d = 0 then ph_ms f d else ph_ms f d ||| ((1 : Int32) <<< (nI d &&& 31))
theorem ph_ms_t {f : Nat → Int32} {m : Nat} (hm : m ≤ 24) : ∀ d, d < m → f d ≠ 0 → bt (ph_ms f m) d = true := by
  induction m with
  | zero => intro d hd; exact absurd hd (by omega)
  | succ m ih =>
    intro d hd hf
    show bt (if f m = 0 then ph_ms f m else ph_ms f m ||| ((1 : Int32) <<< (nI m &&& 31))) d = true
    by_cases e : d = m
    · subst e
      rw [if_neg hf, b_or, b_shl d (by omega) 1 (by omega), Nat.sub_self, decide_eq_true (Nat.le_refl d), ph_b1 0 (by omega)]
      exact Bool.or_true _
    · have h := ih (by omega) d (by omega) hf
      by_cases g : f m = 0
      · rw [if_pos g]; exact h
      · rw [if_neg g, b_or, h]; rfl
theorem ph_ms_0 {f : Nat → Int32} {m : Nat} (h : ∀ d, d < m → f d = 0) : ph_ms f m = 0 := by
  induction m with
  | zero => rfl
  | succ m ih =>
    show (if f m = 0 then ph_ms f m else ph_ms f m ||| ((1 : Int32) <<< (nI m &&& 31))) = 0
    rw [if_pos (h m (by omega))]
    exact ih (fun d hd => h d (by omega))
theorem ph_ms_z {f : Nat → Int32} {m : Nat} (hm : m ≤ 24) (h : ph_ms f m = 0) : ∀ d, d < m → f d = 0 := by
  intro d hd
  by_cases e : f d = 0
  · exact e
  · have t := ph_ms_t hm d hd e
    rw [h, b_0] at t
    exact absurd t (by decide)
def ph_on (x : Int32) : Nat → Nat
  | 0 => 0
  | e + 1 => ph_on x e + (if bt x e = true then 1 else 0)
theorem ph_on_le (x : Int32) (e : Nat) : ph_on x e ≤ e := by
  induction e with
  | zero => exact Nat.le_refl _
  | succ e ih =>
    show ph_on x e + (if bt x e = true then 1 else 0) ≤ e + 1
    by_cases h : bt x e = true
    · rw [if_pos h]; omega
    · rw [if_neg h]; omega
theorem ph_on_f {x : Int32} {e : Nat} (h : ph_on x e = 0) : ∀ i, i < e → bt x i = false := by
  induction e with
  | zero => intro i hi; exact absurd hi (by omega)
  | succ e ih =>
    intro i hi
    have h' : ph_on x e + (if bt x e = true then 1 else 0) = 0 := h
    by_cases g : bt x e = true
    · rw [if_pos g] at h'; exact absurd h' (by omega)
    · by_cases q : i = e
      · rw [q]; exact Bool.eq_false_iff.mpr g
      · exact ih (by omega) i (by omega)
theorem ph_on_0 (e : Nat) : ph_on 0 e = 0 := by
  induction e with
  | zero => rfl
  | succ e ih =>
    show ph_on 0 e + (if bt 0 e = true then 1 else 0) = 0
    rw [ih, b_0]; rfl
theorem ph_on_z {x : Int32} (hx : ph_lo x) : ph_on x 24 = 0 ↔ x = 0 := ⟨fun h => ph_lo_z hx (ph_on_f h), fun h => by rw [h]; exact ph_on_0 24⟩
def ph_fq (f : Nat → Int32) : Nat → Nat
  | 0 => 0
  | d + 1 => ph_fq f d + ph_on (f d) 24
theorem ph_fq_le (f : Nat → Int32) (d : Nat) : ph_fq f d ≤ 24 * d := by
  induction d with
  | zero => exact Nat.le_refl _
  | succ d ih =>
    show ph_fq f d + ph_on (f d) 24 ≤ 24 * (d + 1)
    have := ph_on_le (f d) 24
    omega
theorem ph_fq_z {f : Nat → Int32} {m : Nat} (hl : ∀ d, d < m → ph_lo (f d)) : ph_fq f m = 0 ↔ ∀ d, d < m → f d = 0 := by
  induction m with
  | zero => exact ⟨fun _ d hd => absurd hd (by omega), fun _ => rfl⟩
  | succ m ih =>
    show ph_fq f m + ph_on (f m) 24 = 0 ↔ _
    rw [Nat.add_eq_zero_iff, ih (fun d hd => hl d (by omega)), ph_on_z (hl m (by omega))]
    constructor
    · rintro ⟨h1, h2⟩ d hd
      by_cases e : d = m
      · rw [e]; exact h2
      · exact h1 d (by omega)
    · intro h
      exact ⟨fun d hd => h d (by omega), h m (by omega)⟩
theorem ph_ones {post : Int32 → Prop} {x : Int32} (H : post (nI (ph_on x 24))) : wpX_ones post () x := by
  unfold wpX_ones
  refine pk_loop (σ := Unit) (fun f i _ => wX_ones_4 post x f (nI (ph_on x i)) (nI i)) (fun _ _ => True) 24 0 () (by omega) trivial
    (fun f _ _ => pk_le 24 24 (fun _ => H) (fun z => absurd z (by omega)))
    (fun f i _ hi _ hw => pk_le 24 i (fun z => absurd z (by omega)) (fun _ => nm_r ?_ (nm_r (nI_1 i) (hw () trivial))))
  rw [ph_bit x (by omega), nI_add]
  rfl
section
variable {sz oc : Int32} {a1 a2 a3 a4 a5 a6 a7 a8 a9 : Nat → Int32}
theorem ph_has {post : Int32 → Prop} {n : Nat} {tk : Nat → Nat} (hK : ph_K n tk a4) (H : post (nI (ph_ct tk n))) : wpX_hasTokens post (nI n, oc, a1, a2, a3, a4, a5, a6, a7, a8, a9) := by
  have hn := hK.1
  unfold wpX_hasTokens
  refine pk_loop (σ := Unit) (fun f i _ => wX_hasTokens_4 post (nI n) oc a1 a2 a3 a4 a5 a6 a7 a8 a9 f (nI (ph_ct tk i)) (nI i)) (fun _ _ => True) n 0 () (by omega) trivial
    (fun f _ _ => pk_le n n (fun _ => H) (fun z => absurd z (by omega)))
    (fun f i _ hi _ hw => pk_le n i (fun z => absurd z (by omega)) (fun _ => ⟨pk_in i 12 (by omega), ?_⟩))
  have t := hw () trivial
  have ht : tk i < 24 := by rcases ph_V_tk hK.2.2 hi with h | h <;> omega
  have e : ph_ct tk (i + 1) = ph_ct tk i + (if tk i = 23 then 1 else 0) := rfl
  try dsimp only at t
  rw [nI_clamp (by omega), hK.2.1 i hi]
  refine pk_eq (tk i) 23 (fun g => nm_r (nI_1 _) (nm_r (nI_1 i) ?_)) (fun g => nm_r (nI_add _ 0) (nm_r (nI_1 i) ?_))
  · rw [if_pos g] at e; rw [e] at t; exact t
  · rw [if_neg g] at e; rw [e] at t; exact t
theorem ph_matching {post : Int32 → St1 → Prop} {n : Nat} {tk : Nat → Nat} (hK : ph_K n tk a4)
    (H : ∀ c b5 b6 b7 b8 b9, post (ph_ms (ph_hv n tk a3) 6) (nI n, c, a1, a2, a3, a4, b5, b6, b7, b8, b9)) :
    wpX_matching post (nI n, oc, a1, a2, a3, a4, a5, a6, a7, a8, a9) := by
  unfold wpX_matching
  refine pk_loop (σ := Int32 × (Nat → Int32) × (Nat → Int32) × (Nat → Int32) × (Nat → Int32) × (Nat → Int32)) (fun f i s => wX_matching_4 post f (ph_ms (ph_hv n tk a3) i) (nI i) (nI n) s.1 a1 a2 a3 a4 s.2.1 s.2.2.1 s.2.2.2.1 s.2.2.2.2.1 s.2.2.2.2.2) (fun _ _ => True) 6 0 (oc, a5, a6, a7, a8, a9) (by omega) trivial
    (fun f s _ => pk_le 6 6 (fun _ => H _ _ _ _ _ _) (fun z => absurd z (by omega)))
    (fun f i s hi _ hw => pk_le 6 i (fun z => absurd z (by omega)) (fun _ => ph_holds hK hi (fun c b5 b6 b7 b8 b9 => br_c (fun g => nm_r (ph_or0 _) (nm_r (nI_1 i) ?_)) (fun g => nm_e (nm_r (nI_1 i) ?_)))))
  · have t := hw (c, b5, b6, b7, b8, b9) trivial
    have e : ph_ms (ph_hv n tk a3) (i + 1) = ph_ms (ph_hv n tk a3) i := if_pos g
    try dsimp only at t
    rw [e] at t
    exact t
  · have t := hw (c, b5, b6, b7, b8, b9) trivial
    have e : ph_ms (ph_hv n tk a3) (i + 1) = ph_ms (ph_hv n tk a3) i ||| ((1 : Int32) <<< (nI i &&& 31)) := if_neg g
    try dsimp only at t
    rw [e] at t
    exact t
theorem ph_having {post : Int32 → Prop} {w : Nat} (hw' : w < 12) (H : post (ph_ms (fun d => a3 (d * 12 + w)) 6)) : wpX_having post (sz, oc, a1, a2, a3, a4, a5, a6, a7, a8, a9) (nI w) := by
  unfold wpX_having
  refine pk_loop (σ := Unit) (fun f i _ => wX_having_4 post (nI w) sz oc a1 a2 a3 a4 a5 a6 a7 a8 a9 f (ph_ms (fun d => a3 (d * 12 + w)) i) (nI i)) (fun _ _ => True) 6 0 () (by omega) trivial
    (fun f _ _ => pk_le 6 6 (fun _ => H) (fun z => absurd z (by omega)))
    (fun f i _ hi _ hw => pk_le 6 i (fun z => absurd z (by omega)) (fun _ => ph_isW hw' (br_f (by decide) ⟨pk_in (i * 12 + w) 72 (by omega) (ph_iy i w), ?_⟩)))
  rw [pk_cl (i * 12 + w) (ph_iy i w)]
  have t := hw () trivial
  try dsimp only at t
  refine br_c (fun g => nm_r (ph_or0 _) (nm_r (nI_1 i) ?_)) (fun g => nm_e (nm_r (nI_1 i) ?_))
  · have e : ph_ms (fun d => a3 (d * 12 + w)) (i + 1) = ph_ms (fun d => a3 (d * 12 + w)) i := if_pos g
    rw [e] at t
    exact t
  · have e : ph_ms (fun d => a3 (d * 12 + w)) (i + 1) = ph_ms (fun d => a3 (d * 12 + w)) i ||| ((1 : Int32) <<< (nI i &&& 31)) := if_neg g
    rw [e] at t
    exact t
theorem ph_freq {post : Int32 → Prop} {w : Nat} (hw' : w < 12) (H : post (nI (ph_fq (fun d => a3 (d * 12 + w)) 6))) : wpX_frequency post (sz, oc, a1, a2, a3, a4, a5, a6, a7, a8, a9) (nI w) := by
  unfold wpX_frequency
  refine pk_loop (σ := Unit) (fun f i _ => wX_frequency_4 post (nI w) sz oc a1 a2 a3 a4 a5 a6 a7 a8 a9 f (nI (ph_fq (fun d => a3 (d * 12 + w)) i)) (nI i)) (fun _ _ => True) 6 0 () (by omega) trivial
    (fun f _ _ => pk_le 6 6 (fun _ => H) (fun z => absurd z (by omega)))
    (fun f i _ hi _ hw => pk_le 6 i (fun z => absurd z (by omega)) (fun _ => ph_isW hw' (br_f (by decide) ⟨pk_in (i * 12 + w) 72 (by omega) (ph_iy i w), ?_⟩)))
  rw [pk_cl (i * 12 + w) (ph_iy i w)]
  exact ph_ones (nm_r (nI_add _ _) (nm_r (nI_1 i) (hw () trivial)))
theorem ph_words {post : Int32 → Prop} {w : Nat} (hw : w < 12) (hD : ∀ j, j < 72 → ph_lo (a3 j)) (H : post 1) : wpL_words post (sz, oc, a1, a2, a3, a4, a5, a6, a7, a8, a9) (nI w) := by
  unfold wpL_words
  have hle := ph_fq_le (fun d => a3 (d * 12 + w)) 6
  have hz := ph_fq_z (f := fun d => a3 (d * 12 + w)) (m := 6) (fun d hd => hD _ (by omega))
  refine ph_having hw (ph_freq hw ?_)
  have P : ∀ z : Int32, wL_words_30 post (nI (ph_fq (fun d => a3 (d * 12 + w)) 6)) z z sz oc a1 a2 a3 a4 a5 a6 a7 a8 a9 := by
    intro z
    unfold wL_words_30
    exact br_t rfl (br_f (nI_pos (by omega)) H)
  refine pk_eq (ph_fq (fun d => a3 (d * 12 + w)) 6) 0 (fun e => ?_) (fun e => ?_)
  · unfold wL_words_21
    exact br_t (ph_ms_0 (hz.mp e)) (P 1)
  · unfold wL_words_21
    exact br_f (fun g => e (hz.mpr (ph_ms_z (by omega) g))) (P 0)
theorem ph_spanOf {post : Int32 → St1 → Prop} {n d k p : Nat} {tk : Nat → Nat} (hK : ph_K n tk a4) (hd : d < 6) (hC : ph_C tk n) (hp : p < n) (h23 : tk p = 23) (hk : ph_ct tk p = k)
    (H : ∀ c b5 b6 b7 b8 b9, (∀ b, b < 24 → b8 ((p + 1) * 24 + b) = ph_E n tk a3 d (p + 1) b) → post (nI (p + 1)) (nI n, c, a1, a2, a3, a4, b5, b6, b7, b8, b9)) :
    wpX_spanOf post (nI n, oc, a1, a2, a3, a4, a5, a6, a7, a8, a9) (nI k) (nI d) := by
  have hn := hK.1
  have hkp := ph_ct_le tk p
  unfold wpX_spanOf
  refine ph_isD hd (br_f (by decide) (br_f (nI_pos (by omega)) (ph_work hK hd (fun g => absurd hC g) (fun _ c b5 b6 b7 b8 b9 hW => br_f (by decide) ?_))))
  refine pk_loop (σ := Unit) (fun f i _ => wX_spanOf_26 post (nI k) (nI n) c a1 a2 a3 a4 b5 b6 b7 b8 b9 f (nI (ph_ct tk i)) (nI i)) (fun _ _ => True) p 0 () (by omega) trivial
    (fun f _ _ => pk_le n p (fun z => absurd z (by omega)) (fun _ => ⟨pk_in p 12 (by omega), ?_⟩))
    (fun f i _ hi _ hw => pk_le n i (fun z => absurd z (by omega)) (fun _ => ⟨pk_in i 12 (by omega), ?_⟩))
  · rw [nI_clamp (by omega), hK.2.1 p hp, h23, nI_1]
    refine br_t rfl (br_t (by rw [hk]) (H _ _ _ _ _ _ ?_))
    exact (hW (p + 1) (ph_C_last hC hp (by omega))).1 (ph_gd_s (ph_C_one hK.2.2 hC hp (by omega)) (Or.inl h23))
  · have t := hw () trivial
    have ht : tk i < 24 := by rcases ph_V_tk hK.2.2 (show i < n by omega) with h | h <;> omega
    have e : ph_ct tk (i + 1) = ph_ct tk i + (if tk i = 23 then 1 else 0) := rfl
    have hm : ph_ct tk (i + 1) ≤ ph_ct tk p := ph_ct_mono (by omega)
    try dsimp only at t
    rw [nI_clamp (by omega), hK.2.1 i (by omega)]
    refine pk_eq (tk i) 23 (fun g => ?_) (fun g => nm_r (nI_1 i) ?_)
    · rw [if_pos g] at e
      rw [e] at t
      exact pk_eq (ph_ct tk i) k (fun z => absurd z (by omega)) (fun _ => nm_r (nI_1 _) (nm_r (nI_1 i) t))
    · rw [if_neg g] at e
      rw [e] at t
      exact t
theorem ph_spans {post : Int32 → St1 → Prop} {n d k p : Nat} {tk : Nat → Nat} (hK : ph_K n tk a4) (hd : d < 6) (hC : ph_C tk n) (hp : p < n) (h23 : tk p = 23) (hk : ph_ct tk p = k)
    (H : ∀ c b5 b6 b7 b8 b9, post (nI (ph_fq (ph_E n tk a3 d (p + 1)) 24)) (nI n, c, a1, a2, a3, a4, b5, b6, b7, b8, b9)) :
    wpX_spans post (nI n, oc, a1, a2, a3, a4, a5, a6, a7, a8, a9) (nI k) (nI d) := by
  have hn := hK.1
  have hl := ph_C_last hC hp (by omega)
  unfold wpX_spans
  refine ph_spanOf hK hd hC hp h23 hk (fun c b5 b6 b7 b8 b9 hE => br_t (nI_pos' (by omega)) ?_)
  refine pk_loop (σ := Unit) (fun f i _ => wX_spans_19 post (nI (p + 1)) (nI n) c a1 a2 a3 a4 b5 b6 b7 b8 b9 f (nI (ph_fq (ph_E n tk a3 d (p + 1)) i)) (nI i)) (fun _ _ => True) 24 0 () (by omega) trivial
    (fun f _ _ => pk_le 24 24 (fun _ => H _ _ _ _ _ _) (fun z => absurd z (by omega)))
    (fun f i _ hi _ hw => pk_le 24 i (fun z => absurd z (by omega)) (fun _ => ⟨pk_in ((p + 1) * 24 + i) 288 (by omega) (ph_ix (p + 1) i), ?_⟩))
  rw [pk_cl ((p + 1) * 24 + i) (ph_ix (p + 1) i), hE i hi]
  exact ph_ones (nm_r (nI_add _ _) (nm_r (nI_1 i) (hw () trivial)))
theorem ph_begins {post : Int32 → St1 → Prop} {n d k p q : Nat} {tk : Nat → Nat} (hK : ph_K n tk a4) (hd : d < 6) (hC : ph_C tk n) (hp : p < n) (h23 : tk p = 23) (hk : ph_ct tk p = k) (hq : q ≤ 24)
    (H1 : ∀ b, q ≤ b → b < 24 → ph_E n tk a3 d (p + 1) b ≠ 0 → (∀ x, q ≤ x → x < b → ph_E n tk a3 d (p + 1) x = 0) → ∀ c b5 b6 b7 b8 b9, post (nI b) (nI n, c, a1, a2, a3, a4, b5, b6, b7, b8, b9))
    (H0 : (∀ x, q ≤ x → x < 24 → ph_E n tk a3 d (p + 1) x = 0) → ∀ c b5 b6 b7 b8 b9, post (-1) (nI n, c, a1, a2, a3, a4, b5, b6, b7, b8, b9)) :
    wpX_begins post (nI n, oc, a1, a2, a3, a4, a5, a6, a7, a8, a9) (nI k) (nI d) (nI q) := by
  have hn := hK.1
  have hl := ph_C_last hC hp (by omega)
  unfold wpX_begins
  refine ph_spanOf hK hd hC hp h23 hk (fun c b5 b6 b7 b8 b9 hE => br_t (nI_pos' (by omega)) (ph_firstB (by omega) hq (fun b h1 h2 h3 h4 => H1 b h1 h2 ?_ (fun x x1 x2 => ?_) _ _ _ _ _ _) (fun h => H0 (fun x x1 x2 => ?_) _ _ _ _ _ _)))
  · rw [← hE b h2]; exact h3
  · rw [← hE x (by omega)]; exact h4 x x1 x2
  · rw [← hE x x2]; exact h x x1 x2
theorem ph_ends {post : Int32 → St1 → Prop} {n d k p q : Nat} {tk : Nat → Nat} (hK : ph_K n tk a4) (hd : d < 6) (hC : ph_C tk n) (hp : p < n) (h23 : tk p = 23) (hk : ph_ct tk p = k) (hq : q < 24)
    (H1 : ∀ e, e < 24 → ph_E n tk a3 d (p + 1) q ≠ 0 → ∀ c b5 b6 b7 b8 b9, post (nI e) (nI n, c, a1, a2, a3, a4, b5, b6, b7, b8, b9))
    (H0 : ph_E n tk a3 d (p + 1) q = 0 → ∀ c b5 b6 b7 b8 b9, post (-1) (nI n, c, a1, a2, a3, a4, b5, b6, b7, b8, b9)) :
    wpX_ends post (nI n, oc, a1, a2, a3, a4, a5, a6, a7, a8, a9) (nI k) (nI d) (nI q) := by
  have hn := hK.1
  have hl := ph_C_last hC hp (by omega)
  have hlo := ph_E_lo (n := n) (tk := tk) (a3 := a3) (d := d) (j := p + 1) hq
  unfold wpX_ends
  refine ph_spanOf hK hd hC hp h23 hk (fun c b5 b6 b7 b8 b9 hE => br_f (nI_pos (by omega)) (br_f (nI_pos (by omega)) (pk_lt q 24 (fun _ => ⟨pk_in ((p + 1) * 24 + q) 288 (by omega) (ph_ix (p + 1) q), nm_r (show _ = ph_E n tk a3 d (p + 1) q by rw [pk_cl ((p + 1) * 24 + q) (ph_ix (p + 1) q)]; exact hE q hq) ?_⟩) (fun z => absurd z (by omega)))))
  refine pk_loop (σ := Unit) (fun f i _ => wX_ends_42 post (ph_E n tk a3 d (p + 1) q) (nI n) c a1 a2 a3 a4 b5 b6 b7 b8 b9 f (nI i)) (fun i _ => ∀ e, e < i → bt (ph_E n tk a3 d (p + 1) q) e = false) 24 0 () (by omega) (fun e he => absurd he (by omega))
    (fun f _ h => pk_le 24 24 (fun _ => H0 (ph_lo_z hlo h) _ _ _ _ _ _) (fun z => absurd z (by omega)))
    (fun f i _ hi h hw => pk_le 24 i (fun z => absurd z (by omega)) (fun _ => br_c (fun g => nm_r (nI_1 i) (hw () (fun e he => ?_))) (fun g => H1 i hi (fun u => ?_) _ _ _ _ _ _)))
  · by_cases y : e = i
    · rw [y]; exact (ph_bit0 _ (by omega)).mp g
    · exact h e (by omega)
  · exact g ((ph_bit0 _ (by omega)).mpr (by rw [u]; exact b_0 i))
theorem ph_Lspans {post : Int32 → St1 → Prop} {n d k : Nat} {tk : Nat → Nat} (hK : ph_K n tk a4) (hd : d < 6) (hC : ph_C tk n) (hk' : k < ph_ct tk n)
    (H : ∀ c b5 b6 b7 b8 b9, post 1 (nI n, c, a1, a2, a3, a4, b5, b6, b7, b8, b9)) :
    wpL_spans post (nI n, oc, a1, a2, a3, a4, a5, a6, a7, a8, a9) (nI k) (nI d) := by
  obtain ⟨p, hp, h23, hk⟩ := ph_ct_at hk'
  have hz := ph_fq_z (f := ph_E n tk a3 d (p + 1)) (m := 24) (fun b hb => ph_E_lo hb)
  have hle := ph_fq_le (ph_E n tk a3 d (p + 1)) 24
  have P60 : ∀ c b5 b6 b7 b8 b9, ∃ f, wL_spans_60 post (nI k) (nI d) f 0 (nI n) c a1 a2 a3 a4 b5 b6 b7 b8 b9 := by
    intro c b5 b6 b7 b8 b9
    refine pk_loop (σ := Int32 × (Nat → Int32) × (Nat → Int32) × (Nat → Int32) × (Nat → Int32) × (Nat → Int32)) (fun f i s => wL_spans_60 post (nI k) (nI d) f (nI i) (nI n) s.1 a1 a2 a3 a4 s.2.1 s.2.2.1 s.2.2.2.1 s.2.2.2.2.1 s.2.2.2.2.2) (fun _ _ => True) 24 0 (c, b5, b6, b7, b8, b9) (by omega) trivial
      (fun f s _ => pk_le 24 24 (fun _ => H _ _ _ _ _ _) (fun z => absurd z (by omega)))
      (fun f i s hi _ hw => pk_le 24 i (fun z => absurd z (by omega)) (fun _ => ?_))
    have Y : ∀ z c b5 b6 b7 b8 b9, wL_spans_109 post (wL_spans_60 post (nI k) (nI d) f) (nI k) (nI d) (nI i) z z (nI n) c a1 a2 a3 a4 b5 b6 b7 b8 b9 := by
      intro z c b5 b6 b7 b8 b9
      unfold wL_spans_109
      exact br_t rfl (nm_r (nI_1 i) (hw (c, b5, b6, b7, b8, b9) trivial))
    refine ph_ends hK hd hC hp h23 hk hi (fun e he hne c b5 b6 b7 b8 b9 => ?_) (fun h0 c b5 b6 b7 b8 b9 => ?_)
    · refine ph_begins hK hd hC hp h23 hk (q := i) (by omega) (fun b h1 h2 h3 h4 c b5 b6 b7 b8 b9 => br_f (nI_pos (by omega)) ?_) (fun h4 c b5 b6 b7 b8 b9 => absurd (h4 i (Nat.le_refl i) hi) hne)
      unfold wL_spans_97
      have hb : b = i := by
        rcases Nat.lt_or_ge i b with g | g
        · exact absurd (h4 i (Nat.le_refl i) g) hne
        · omega
      exact br_t (by rw [hb]) (Y _ _ _ _ _ _ _)
    · refine ph_begins hK hd hC hp h23 hk (q := i) (by omega) (fun b h1 h2 h3 h4 c b5 b6 b7 b8 b9 => br_t (by decide) ?_) (fun h4 c b5 b6 b7 b8 b9 => br_t (by decide) ?_)
      · unfold wL_spans_97
        refine pk_eq b i (fun g => ?_) (fun _ => Y _ _ _ _ _ _ _)
        rw [g] at h3
        exact absurd h0 h3
      · unfold wL_spans_97
        refine br_f (fun g => ?_) (Y _ _ _ _ _ _ _)
        exact absurd (show nI i < 0 by rw [← g]; decide) (nI_pos (by omega))
  unfold wpL_spans
  refine ph_spans hK hd hC hp h23 hk (fun c b5 b6 b7 b8 b9 => ?_)
  refine ph_begins hK hd hC hp h23 hk (q := 0) (by omega) (fun b h1 h2 h3 h4 c b5 b6 b7 b8 b9 => ?_) (fun h4 c b5 b6 b7 b8 b9 => br_t rfl ?_)
  · refine br_f (fun g => ?_) ?_
    · exact absurd (show nI b < 0 by rw [g]; decide) (nI_pos (by omega))
    · unfold wL_spans_27
      refine pk_eq (ph_fq (ph_E n tk a3 d (p + 1)) 24) 0 (fun g => absurd (hz.mp g b h2) h3) (fun _ => ?_)
      unfold wL_spans_36
      refine br_t rfl (br_f (nI_pos (by omega)) (ph_ends hK hd hC hp h23 hk h2 (fun e he hne c b5 b6 b7 b8 b9 => br_t (nI_pos' (by omega)) (P60 _ _ _ _ _ _)) (fun h0 => absurd h0 h3)))
  · unfold wL_spans_27
    refine pk_eq (ph_fq (ph_E n tk a3 d (p + 1)) 24) 0 (fun _ => ?_) (fun g => absurd (hz.mpr (fun x hx => h4 x (Nat.zero_le x) hx)) g)
    unfold wL_spans_36
    exact br_t rfl (br_t (by decide) (P60 _ _ _ _ _ _))
end
end
section
/-! ===== write, change, erase, and the law's call ===== -/
def ph_D (a1 a2 a3 : Nat → Int32) : Prop := (∀ j, j < 6 → ∃ s, s ≤ 24 ∧ a1 j = nI s) ∧ (∀ j, j < 144 → ∃ w, w < 12 ∧ a2 j = nI w) ∧ (∀ j, j < 72 → ph_lo (a3 j))
theorem ph_upd {P : Int32 → Prop} {f : Nat → Int32} {N k : Nat} {x : Int32} (h : ∀ j, j < N → P (f j)) (hx : P x) : ∀ j, j < N → P (upd f k x j) := by
  intro j hj
  by_cases e : j = k
  · rw [e, pk_us]; exact hx
  · rw [pk_un e]; exact h j hj
section
variable {sz oc : Int32} {a1 a2 a3 a4 a5 a6 a7 a8 a9 : Nat → Int32}
theorem ph_write {post : Int32 → St1 → Prop} {d w : Nat} (hd : d < 6) (hw : w < 12) (hD : ph_D a1 a2 a3)
    (H : ∀ r b1 b2 b3, ph_D b1 b2 b3 → post r (sz, oc, b1, b2, b3, a4, a5, a6, a7, a8, a9)) : wpX_write post (sz, oc, a1, a2, a3, a4, a5, a6, a7, a8, a9) (nI d) (nI w) := by
  obtain ⟨D1, D2, D3⟩ := hD
  obtain ⟨s, hs, es⟩ := D1 d hd
  unfold wpX_write
  refine ph_isD hd (br_f (by decide) (ph_isW hw (br_f (by decide) ⟨pk_in d 6 hd, ?_⟩)))
  rw [nI_clamp (show d < 2 ^ 31 by omega), es, pk_cl (d * 12 + w) (ph_iy d w), ph_i8 w (by omega)]
  refine pk_lt s 24 (fun h => ⟨pk_in d 6 hd, nm_e ⟨pk_in (d * 24 + s) 144 (by omega) (ph_ix d s), nm_e ⟨pk_in (d * 12 + w) 72 (by omega) (ph_iy d w), pk_in (d * 12 + w) 72 (by omega) (ph_iy d w), nm_e ⟨pk_in d 6 hd, pk_in d 6 hd, nm_e (H _ _ _ _ ⟨?_, ?_, ?_⟩)⟩⟩⟩⟩) (fun h => H _ _ _ _ ⟨D1, D2, D3⟩)
  · exact ph_upd (P := fun y => ∃ s, s ≤ 24 ∧ y = nI s) D1 ⟨s + 1, by omega, by rw [nI_1, ph_i8 (s + 1) (by omega)]⟩
  · exact ph_upd (P := fun y => ∃ w, w < 12 ∧ y = nI w) D2 ⟨w, hw, rfl⟩
  · exact ph_upd (P := ph_lo) D3 (ph_lo_or (D3 _ (by omega)) (ph_lo_1 h))
theorem ph_change {post : Int32 → St1 → Prop} {d p w : Nat} (hd : d < 6) (hp : p < 24) (hw : w < 12) (hD : ph_D a1 a2 a3)
    (H : ∀ r b1 b2 b3, ph_D b1 b2 b3 → post r (sz, oc, b1, b2, b3, a4, a5, a6, a7, a8, a9)) : wpX_change post (sz, oc, a1, a2, a3, a4, a5, a6, a7, a8, a9) (nI d) (nI p) (nI w) := by
  have hD' := hD
  obtain ⟨D1, D2, D3⟩ := hD
  obtain ⟨v, hv, ev⟩ := D2 (d * 24 + p) (by omega)
  unfold wpX_change
  refine ph_isD hd (br_f (by decide) (br_f (nI_pos (by omega)) ⟨pk_in d 6 hd, br_c (fun _ => H _ _ _ _ hD') (fun _ => ph_isW hw (br_f (by decide) ⟨pk_in (d * 24 + p) 144 (by omega) (ph_ix d p), nm_r (show _ = nI v by rw [pk_cl (d * 24 + p) (ph_ix d p)]; exact ev) ?_⟩))⟩))
  have q1 : vp_in (nI d * 12 + nI v) 72 := pk_in (d * 12 + v) 72 (by omega) (ph_iy d v)
  have q2 : vp_in (nI d * 12 + nI w) 72 := pk_in (d * 12 + w) 72 (by omega) (ph_iy d w)
  rw [ph_i8 w (by omega), pk_cl (d * 12 + v) (ph_iy d v), pk_cl (d * 12 + w) (ph_iy d w)]
  have E3 : ∀ j, j < 72 → ph_lo (upd a3 (d * 12 + v) (a3 (d * 12 + v) &&& (((1 : Int32) <<< (nI p &&& 31)) ^^^ (-1))) j) := ph_upd (P := ph_lo) D3 (ph_lo_and _ (D3 _ (by omega)))
  refine ⟨q1, q1, nm_e ⟨pk_in (d * 24 + p) 144 (by omega) (ph_ix d p), nm_e ⟨q2, q2, nm_e (H _ _ _ _ ⟨D1, ?_, ?_⟩)⟩⟩⟩
  · exact ph_upd (P := fun y => ∃ w, w < 12 ∧ y = nI w) D2 ⟨w, hw, rfl⟩
  · exact ph_upd (P := ph_lo) E3 (ph_lo_or (E3 _ (by omega)) (ph_lo_1 hp))
theorem ph_erase {post : Int32 → St1 → Prop} {d : Nat} (hd : d < 6) (hD : ph_D a1 a2 a3)
    (H : ∀ r b1 b2 b3, ph_D b1 b2 b3 → post r (sz, oc, b1, b2, b3, a4, a5, a6, a7, a8, a9)) : wpX_erase post (sz, oc, a1, a2, a3, a4, a5, a6, a7, a8, a9) (nI d) := by
  obtain ⟨D1, D2, D3⟩ := hD
  unfold wpX_erase
  have E1 : ∀ j, j < 6 → ∃ s, s ≤ 24 ∧ upd a1 (nI d).toNatClampNeg 0 j = nI s := ph_upd (P := fun y => ∃ s, s ≤ 24 ∧ y = nI s) D1 ⟨0, by omega, rfl⟩
  refine ph_isD hd (br_f (by decide) ⟨pk_in d 6 hd, nm_e ?_⟩)
  exact pk_loop (fun f i s => wX_erase_18 post (nI d) sz oc f (nI i) (upd a1 (nI d).toNatClampNeg 0) a2 s a4 a5 a6 a7 a8 a9) (fun _ s => ∀ j, j < 72 → ph_lo (s j)) 12 0 a3 (by omega) D3
    (fun f s h => pk_le 12 12 (fun _ => H _ _ _ _ ⟨E1, D2, h⟩) (fun z => absurd z (by omega)))
    (fun f i s hi h hw => pk_le 12 i (fun z => absurd z (by omega)) (fun _ => ⟨pk_in (d * 12 + i) 72 (by omega) (ph_iy d i), nm_e (nm_r (nI_1 i) (hw _ (ph_upd (P := ph_lo) h ph_lo_0)))⟩))
theorem ph_ask' {post : Int32 → St1 → Prop} {n p : Nat} {tk : Nat → Nat} (hp : p < 32) (hK : ph_K n tk a4)
    (H : ∀ r m tk' c b4 b5 b6 b7, ph_K m tk' b4 → post r (nI m, c, a1, a2, a3, b4, b5, b6, b7, a8, a9)) : wpX_ask post (nI n, oc, a1, a2, a3, a4, a5, a6, a7, a8, a9) (nI p) := by
  refine ph_ask hp hK (fun _ r c b5 b6 b7 => H _ _ _ _ _ _ _ _ hK) (fun h1 h2 h3 c b5 b6 b7 => H _ _ (fun j => if j = n then p else tk j) _ _ _ _ _ ⟨h1, fun j hj => ?_, ph_V_add hK.2.2 h2 h3⟩)
  by_cases e : j = n
  · rw [e, pk_us]
    show nI p = nI (if n = n then p else tk n)
    rw [if_pos rfl]
  · rw [pk_un e]
    show a4 j = nI (if j = n then p else tk j)
    rw [if_neg e]
    exact hK.2.1 j (by omega)
theorem ph_unask' {post : Int32 → St1 → Prop} {n : Nat} {tk : Nat → Nat} (hK : ph_K n tk a4)
    (H : ∀ r m, ph_K m tk a4 → post r (nI m, oc, a1, a2, a3, a4, a5, a6, a7, a8, a9)) : wpX_unask post (nI n, oc, a1, a2, a3, a4, a5, a6, a7, a8, a9) := by
  have hn := hK.1
  cases n with
  | zero => exact ph_unask0 (H _ 0 hK)
  | succ m => exact ph_unask1 (by omega) (H _ m ⟨by omega, fun j hj => hK.2.1 j (by omega), ph_V_le hK.2.2 (by omega)⟩)
theorem ph_call142 {post : St1 → Prop} {x : Int32} {n : Nat} {tk : Nat → Nat} (hK : ph_K n tk a4)
    (H : ∀ m tk' c b4 b5 b6 b7, ph_K m tk' b4 → post (nI m, c, a1, a2, a3, b4, b5, b6, b7, a8, a9)) : wL_call_142 post x (nI n) oc a1 a2 a3 a4 a5 a6 a7 a8 a9 := by
  unfold wL_call_142
  exact br_c (fun _ => ph_ask' (p := 23) (by omega) hK (fun r m tk' c b4 b5 b6 b7 h => H _ _ _ _ _ _ _ h)) (fun _ => H _ _ _ _ _ _ _ hK)
theorem ph_call137 {post : St1 → Prop} {p n : Nat} {tk : Nat → Nat} (hp : p < 32) (hK : ph_K n tk a4)
    (H : ∀ m tk' c b4 b5 b6 b7, ph_K m tk' b4 → post (nI m, c, a1, a2, a3, b4, b5, b6, b7, a8, a9)) : wL_call_137 post (nI p) (nI n) oc a1 a2 a3 a4 a5 a6 a7 a8 a9 := by
  unfold wL_call_137
  exact ph_ask' hp hK (fun r m tk' c b4 b5 b6 b7 h => ph_call142 h H)
theorem ph_call77 {post : St1 → Prop} {x1 x2 : Int32} {n : Nat} {tk : Nat → Nat} (hK : ph_K n tk a4)
    (H : ∀ m tk' c b4 b5 b6 b7, ph_K m tk' b4 → post (nI m, c, a1, a2, a3, b4, b5, b6, b7, a8, a9)) : wL_call_77 post x1 x2 (nI n) oc a1 a2 a3 a4 a5 a6 a7 a8 a9 := by
  obtain ⟨j, hj, ej⟩ := pk_andE x2 (m := 31) 5 (by decide)
  obtain ⟨q, hq, eq⟩ := pk_andE (x2 >>> ((6 : Int32) &&& 31)) (m := 3) 2 (by decide)
  unfold wL_call_77
  refine br_c (fun _ => br_c (fun _ => H _ _ _ _ _ _ _ hK) (fun _ => nm_r ej (ph_ask' (by omega) hK (fun r m tk' c b4 b5 b6 b7 h => br_c (fun _ => br_c (fun _ => ph_call137 (p := 23) (by omega) h H) (fun _ => ?_)) (fun _ => ph_call142 h H))))) (fun _ => ph_unask' hK (fun r m h => H _ _ _ _ _ _ _ h))
  rw [eq]
  exact ph_call137 (by omega) h H
theorem ph_call {post : St1 → Prop} {x1 x2 : Int32} {n : Nat} {tk : Nat → Nat} (hK : ph_K n tk a4) (hD : ph_D a1 a2 a3)
    (H : ∀ m tk' c b1 b2 b3 b4 b5 b6 b7, ph_K m tk' b4 → ph_D b1 b2 b3 → post (nI m, c, b1, b2, b3, b4, b5, b6, b7, a8, a9)) : wpL_call post (nI n, oc, a1, a2, a3, a4, a5, a6, a7, a8, a9) x1 x2 := by
  obtain ⟨j, hj, ej⟩ := pk_andE x2 (m := 7) 3 (by decide)
  obtain ⟨q, hq, eq⟩ := pk_andE (x2 >>> ((5 : Int32) &&& 31)) (m := 7) 3 (by decide)
  obtain ⟨w, hw, ew⟩ := pk_andE (x2 >>> ((3 : Int32) &&& 31)) (m := 3) 2 (by decide)
  have hr : j % 6 < 6 := Nat.mod_lt _ (by decide)
  have er : (x2 &&& 7) - (x2 &&& 7) / 6 * 6 = nI (j % 6) := by
    rw [ej]
    exact pk_rem (a := j) (d := 6) (by omega) (by omega) (by omega)
  unfold wpL_call
  refine ⟨by decide, nm_r er ?_⟩
  rw [eq, ew]
  have P : wL_call_77 post x1 x2 (nI n) oc a1 a2 a3 a4 a5 a6 a7 a8 a9 := ph_call77 hK (fun m tk' c b4 b5 b6 b7 h => H _ _ _ _ _ _ _ _ _ _ h hD)
  exact br_c (fun _ => br_c (fun _ => br_c (fun _ => P) (fun _ => br_c (fun _ => ph_erase hr hD (fun r b1 b2 b3 h => H _ _ _ _ _ _ _ _ _ _ hK h)) (fun _ => P))) (fun _ => ph_change hr (by omega) (by omega) hD (fun r b1 b2 b3 h => H _ _ _ _ _ _ _ _ _ _ hK h))) (fun _ => ph_write hr (by omega) hD (fun r b1 b2 b3 h => H _ _ _ _ _ _ _ _ _ _ hK h))
end
end
section
/-! ===== single: the query is taken down and asked again ===== -/
def ph_kp (n : Nat) (tk : Nat → Nat) : Nat → Nat
  | 0 => 0
  | m + 1 => ph_kp n tk m * 32 + tk (n - (m + 1))
theorem ph_kp_lt {n : Nat} {tk : Nat → Nat} (h : ∀ j, j < n → tk j < 24) {m : Nat} (hm : m ≤ n) : ph_kp n tk m < 2 ^ (5 * m) := by
  induction m with
  | zero => exact Nat.lt_of_lt_of_le (show 0 < 1 by decide) (Nat.le_refl 1)
  | succ m ih =>
    have h1 := ih (by omega)
    have h2 := h (n - (m + 1)) (by omega)
    show ph_kp n tk m * 32 + tk (n - (m + 1)) < 2 ^ (5 * (m + 1))
    rw [show 5 * (m + 1) = 5 * m + 5 by omega, Nat.pow_add]
    omega
theorem ph_kp_60 {n : Nat} {tk : Nat → Nat} (h : ∀ j, j < n → tk j < 24) (hn : n ≤ 12) {m : Nat} (hm : m ≤ n) : ph_kp n tk m < 2 ^ 60 :=
  Nat.lt_of_lt_of_le (ph_kp_lt h hm) (Nat.pow_le_pow_right (by decide) (by omega))
/-- one token is laid behind what is kept -/
theorem ph_keep {v t : Nat} (hv : v * 32 + t < 2 ^ 64) (ht : t < 24) : (lN v <<< ((5 : Int32).toInt64 &&& 63)) ||| (nI t).toInt64 = lN (v * 32 + t) := by
  have e : lN v <<< ((nI 5).toInt64 &&& 63) = lN (v * 2 ^ 5) := wb_shl v (by omega)
  show (lN v <<< ((nI 5).toInt64 &&& 63)) ||| (nI t).toInt64 = _
  rw [e, nI_l (by omega)]
  exact g_or (k := 5) (p := 32) (by decide) (by omega) hv
theorem ph_low5 {v t : Nat} (ht : t < 24) : (lN (v * 32 + t)).toInt32 &&& 31 = nI t := by
  rw [lN_i, pk_and (nI (v * 32 + t)) (m := 31) 5 (by decide)]
  have e : (nI (v * 32 + t)).toBitVec.toNat = (v * 32 + t) % 2 ^ 32 := BitVec.toNat_ofNat ..
  rw [e]
  congr 1
  omega
theorem ph_shr5 {v t : Nat} (ht : t < 24) (hv : v * 32 + t < 2 ^ 60) : lN (v * 32 + t) >>> ((5 : Int32).toInt64 &&& 63) = lN v := by
  rw [pf_shr (d := 5) (by decide) (by omega)]
  congr 1
  omega
def ph_f1 (n : Nat) (tk : Nat → Nat) (i : Nat) : Int32 := if i = 0 then -1 else nI (tk (n - i))
section
variable {sz oc : Int32} {a1 a2 a3 a4 a5 a6 a7 a8 a9 : Nat → Int32}
theorem ph_s131 {post : Int32 → St1 → Prop} {n : Nat} {tk : Nat → Nat} (hK : ph_K n tk a4) (hC : ph_C tk n) (hct : 0 < ph_ct tk n)
    (H : ∀ c b5 b6 b7 b8 b9, post 1 (nI n, c, a1, a2, a3, a4, b5, b6, b7, b8, b9)) :
    ∃ f, wL_single_131 post (nI (tk 0)) f 1 0 (nI n) oc a1 a2 a3 a4 a5 a6 a7 a8 a9 := by
  have hn := hK.1
  obtain ⟨p, hp, h23, hk⟩ := ph_ct_at hct
  have ht0 := ph_V_0 hK.2.2 hC.1
  refine pk_loop (σ := Int32 × (Nat → Int32) × (Nat → Int32) × (Nat → Int32) × (Nat → Int32) × (Nat → Int32)) (fun f i s => wL_single_131 post (nI (tk 0)) f 1 (nI i) (nI n) s.1 a1 a2 a3 a4 s.2.1 s.2.2.1 s.2.2.2.1 s.2.2.2.2.1 s.2.2.2.2.2) (fun _ _ => True) 6 0 (oc, a5, a6, a7, a8, a9) (by omega) trivial
    (fun f s _ => pk_le 6 6 (fun _ => ⟨rfl, H _ _ _ _ _ _⟩) (fun z => absurd z (by omega)))
    (fun f d s hd _ hw => pk_le 6 d (fun z => absurd z (by omega)) (fun _ => ph_spans (k := 0) hK hd hC hp h23 hk (fun c b5 b6 b7 b8 b9 => ?_)))
  have hle := ph_fq_le (ph_E n tk a3 d (p + 1)) 24
  have hz := ph_fq_z (f := ph_E n tk a3 d (p + 1)) (m := 24) (fun b hb => ph_E_lo hb)
  have S : ∀ z : Int32, (tk 0 = 23 → ph_hv n tk a3 d = z) → wL_single_153 post (wL_single_131 post (nI (tk 0)) f) (nI (tk 0)) 1 (nI d) z (nI n) c a1 a2 a3 a4 b5 b6 b7 b8 b9 := by
    intro z hz
    unfold wL_single_153
    refine br_f (by decide) (pk_eq (tk 0) 23 (fun e => ph_holds hK hd (fun c b5 b6 b7 b8 b9 => br_t (hz e) (nm_r (nI_1 d) (hw (c, b5, b6, b7, b8, b9) trivial)))) (fun e => nm_r (nI_1 d) (hw (c, b5, b6, b7, b8, b9) trivial)))
  have V : tk 0 = 23 → ph_hv n tk a3 d = if ph_any (ph_E n tk a3 d 1) 24 = true then 1 else 0 := by
    intro e
    unfold ph_hv
    rw [if_pos (show 0 < n ∧ ph_st tk n = [] from hC), ph_T_has hC.1 e]
    by_cases g : ph_any (ph_E n tk a3 d 1) 24 = true
    · rw [if_pos g]; rfl
    · rw [if_neg g]; rfl
  have p0 : tk 0 = 23 → p = 0 := by
    intro e
    rcases Nat.eq_zero_or_pos p with g | g
    · exact g
    · have h1 : ph_ct tk 1 ≤ ph_ct tk p := ph_ct_mono g
      have h2 : ph_ct tk 1 = 0 + (if tk 0 = 23 then 1 else 0) := rfl
      rw [if_pos e] at h2
      omega
  refine pk_le (ph_fq (ph_E n tk a3 d (p + 1)) 24) 0 (fun g => S 0 (fun e => ?_)) (fun g => S 1 (fun e => ?_))
  · have h0 := hz.mp (by omega)
    rw [p0 e] at h0
    rw [V e, if_neg (ph_any_f h0)]
  · have h0 : ¬ ∀ b, b < 24 → ph_E n tk a3 d (p + 1) b = 0 := fun q => by
      have := hz.mpr q
      omega
    rw [p0 e] at h0
    rw [V e]
    by_cases y : ph_any (ph_E n tk a3 d 1) 24 = true
    · rw [if_pos y]
    · refine absurd (fun b hb => ?_) h0
      by_cases x : ph_E n tk a3 d 1 b = 0
      · exact x
      · exact absurd (ph_any_t.mpr ⟨b, hb, x⟩) y
theorem ph_s76 {post : Int32 → St1 → Prop} {n : Nat} {tk : Nat → Nat} (hK : ph_K n tk a4) (hC : ph_C tk n) (hct : 0 < ph_ct tk n)
    (H : ∀ c b4 b5 b6 b7 b8 b9, ph_K n tk b4 → post 1 (nI n, c, a1, a2, a3, b4, b5, b6, b7, b8, b9)) :
    ∃ f, wL_single_76 post (nI n) (nI (tk 0)) f (lN (ph_kp n tk n)) 1 0 0 oc a1 a2 a3 a4 a5 a6 a7 a8 a9 := by
  obtain ⟨hn, h4, hv⟩ := hK
  have htk : ∀ j, j < n → tk j < 24 := fun j hj => by rcases ph_V_tk hv hj with h | h <;> omega
  refine pk_loop (σ := Int32 × (Nat → Int32) × (Nat → Int32) × (Nat → Int32) × (Nat → Int32)) (fun f i s => wL_single_76 post (nI n) (nI (tk 0)) f (lN (ph_kp n tk (n - i))) 1 (nI i) (nI i) s.1 a1 a2 a3 s.2.1 s.2.2.1 s.2.2.2.1 s.2.2.2.2 a8 a9) (fun _ s => ∀ j, j < n → s.2.1 j = nI (tk j)) n 0 (oc, a4, a5, a6, a7) (by omega) h4
    (fun f s h => pk_le n n (fun _ => ph_s131 ⟨hn, h, hv⟩ hC hct (fun c b5 b6 b7 b8 b9 => H _ _ _ _ _ _ _ ⟨hn, h, hv⟩)) (fun z => absurd z (by omega)))
    (fun f i s hi h hw => pk_le n i (fun z => absurd z (by omega)) (fun _ => ?_))
  obtain ⟨c0, c4, c5, c6, c7⟩ := s
  dsimp only at h
  obtain ⟨m, hm⟩ : ∃ m, n - i = m + 1 := ⟨n - i - 1, by omega⟩
  have hm' : n - (i + 1) = m := by omega
  have ek : ph_kp n tk (n - i) = ph_kp n tk m * 32 + tk i := by
    rw [hm]
    show ph_kp n tk m * 32 + tk (n - (m + 1)) = _
    rw [show n - (m + 1) = i by omega]
  have hb := ph_kp_60 htk hn (show n - i ≤ n by omega)
  rw [ek] at hb
  have hti := htk i hi
  show ∀ x, x = (lN (ph_kp n tk (n - i))).toInt32 &&& 31 → _
  rw [ek]
  refine nm_r (ph_low5 hti) ?_
  have hKi : ph_K i tk c4 := ⟨by omega, fun j hj => h j (by omega), ph_V_le hv (by omega)⟩
  refine ph_ask (by omega) hKi (fun g => (g ⟨by omega, hv i hi⟩).elim) (fun _ _ _ c b5 b6 b7 => nm_r (ph_shr5 hti hb) (br_f (by decide) (br_t (nI_1 i).symm (nm_r (nI_1 i) ?_))))
  have t := hw (c, upd c4 i (nI (tk i)), b5, b6, b7) (fun j hj => ?_)
  · try dsimp only at t
    rw [hm'] at t
    exact t
  · show upd c4 i (nI (tk i)) j = nI (tk j)
    by_cases e : j = i
    · rw [e, pk_us]
    · rw [pk_un e]; exact h j hj
theorem ph_single {post : Int32 → St1 → Prop} {n : Nat} {tk : Nat → Nat} (hK : ph_K n tk a4) (hC : ph_C tk n) (hct : 0 < ph_ct tk n)
    (H : ∀ c b4 b5 b6 b7 b8 b9, ph_K n tk b4 → post 1 (nI n, c, a1, a2, a3, b4, b5, b6, b7, b8, b9)) :
    wpL_single post (nI n, oc, a1, a2, a3, a4, a5, a6, a7, a8, a9) := by
  have hK' := hK
  obtain ⟨hn, h4, hv⟩ := hK
  have htk : ∀ j, j < n → tk j < 24 := fun j hj => by rcases ph_V_tk hv hj with h | h <;> omega
  have hn0 := hC.1
  have L : ∃ f, wL_single_9 post f (nI (min 0 n)) (ph_f1 n tk 0) (lN (ph_kp n tk (min 0 n))) (nI 0) (nI (n - 0)) oc a1 a2 a3 a4 a5 a6 a7 a8 a9 := by
    refine pk_loop (σ := Unit) (fun f i _ => wL_single_9 post f (nI (min i n)) (ph_f1 n tk i) (lN (ph_kp n tk (min i n))) (nI i) (nI (n - i)) oc a1 a2 a3 a4 a5 a6 a7 a8 a9) (fun _ _ => True) 12 0 () (by omega) trivial
      (fun f _ _ => pk_le 12 12 (fun _ => ?_) (fun z => absurd z (by omega)))
      (fun f i _ hi _ hw => pk_le 12 i (fun z => absurd z (by omega)) (fun _ => ?_))
    · have e1 : min 12 n = n := by omega
      have e2 : ph_f1 n tk 12 = nI (tk 0) := by
        unfold ph_f1
        rw [if_neg (by decide), show n - 12 = 0 by omega]
      have e3 : n - 12 = 0 := by omega
      rw [e1, e2, e3]
      exact ph_s76 hK' hC hct H
    · have t := hw () trivial
      try dsimp only at t
      by_cases g : i < n
      · obtain ⟨m, hm⟩ : ∃ m, n - i = m + 1 := ⟨n - i - 1, by omega⟩
        have hm' : n - (i + 1) = m := by omega
        have f1 : ph_f1 n tk (i + 1) = nI (tk m) := by
          unfold ph_f1
          rw [if_neg (by omega), hm']
        have ek : ph_kp n tk (i + 1) = ph_kp n tk i * 32 + tk m := by
          show ph_kp n tk i * 32 + tk (n - (i + 1)) = _
          rw [hm']
        have hb := ph_kp_60 htk hn (show i + 1 ≤ n by omega)
        rw [ek] at hb
        rw [show min (i + 1) n = i + 1 by omega, f1, ek, hm'] at t
        rw [show min i n = i by omega, hm]
        refine ph_unask1 (by omega) ?_
        rw [h4 m (by omega)]
        have htm := htk m (by omega)
        have np : ¬ nI (tk m) < 0 := nI_pos (by omega)
        refine br_f np ?_
        rw [ph_keep (by omega) htm]
        unfold wL_single_38
        refine br_f np ?_
        unfold wL_single_50
        exact br_f np (nm_r (nI_1 i) (nm_r (nI_1 i) t))
      · have f1 : ph_f1 n tk (i + 1) = ph_f1 n tk i := by
          unfold ph_f1
          rw [if_neg (by omega), if_neg (by omega), show n - (i + 1) = n - i by omega]
        rw [f1, show min (i + 1) n = min i n by omega, show n - (i + 1) = 0 by omega] at t
        rw [show n - i = 0 by omega]
        refine ph_unask0 (br_t (by decide) ?_)
        unfold wL_single_38
        refine br_t (by decide) ?_
        unfold wL_single_50
        exact br_t (by decide) (nm_r (nI_1 i) t)
  unfold wpL_single
  rw [show min 0 n = 0 by omega] at L
  exact L
end
end
section
/-! ===== the law ===== -/
section
variable {sz oc : Int32} {a1 a2 a3 a4 a5 a6 a7 a8 a9 : Nat → Int32}
theorem ph_law92 {post : Int32 → Prop} {L : Nat} {xs : Nat → Int32} {J10 : Int32 → Int32 → Int32 → (Nat → Int32) → (Nat → Int32) → (Nat → Int32) → (Nat → Int32) → (Nat → Int32) → (Nat → Int32) → (Nat → Int32) → (Nat → Int32) → (Nat → Int32) → Prop}
    {J55 : Int32 → Int32 → Int32 → Int32 → (Nat → Int32) → (Nat → Int32) → (Nat → Int32) → (Nat → Int32) → (Nat → Int32) → (Nat → Int32) → (Nat → Int32) → (Nat → Int32) → (Nat → Int32) → Prop} {x2 x4 x5 x7 : Int32} {kc ks n d : Nat} {tk : Nat → Nat}
    (hK : ph_K n tk a4) (hd : d < 6) (h7 : ¬ x7 = 0 → ph_C tk n) (H : ∀ c b5 b6 b7 b8 b9, J55 x5 (nI (d + 1)) (nI n) c a1 a2 a3 a4 b5 b6 b7 b8 b9) :
    ∃ f, wL_law_92 post L xs J10 J55 x2 x4 x5 (nI (ph_ct tk n)) x7 (nI d) kc ks f 0 (nI n) oc a1 a2 a3 a4 a5 a6 a7 a8 a9 := by
  have hn := hK.1
  have hct := ph_ct_le tk n
  exact pk_loop (σ := Int32 × (Nat → Int32) × (Nat → Int32) × (Nat → Int32) × (Nat → Int32) × (Nat → Int32)) (fun f i s => wL_law_92 post L xs J10 J55 x2 x4 x5 (nI (ph_ct tk n)) x7 (nI d) kc ks f (nI i) (nI n) s.1 a1 a2 a3 a4 s.2.1 s.2.2.1 s.2.2.2.1 s.2.2.2.2.1 s.2.2.2.2.2) (fun _ _ => True) (ph_ct tk n) 0 (oc, a5, a6, a7, a8, a9) (by omega) trivial
    (fun f s _ => pk_le (ph_ct tk n) (ph_ct tk n) (fun _ => nm_r (nI_1 d) (H _ _ _ _ _ _)) (fun z => absurd z (by omega)))
    (fun f i s hi _ hw => pk_le (ph_ct tk n) i (fun z => absurd z (by omega)) (fun _ => br_c (fun _ => nm_r (nI_1 d) (H _ _ _ _ _ _)) (fun g => ph_Lspans hK hd (h7 g) hi (fun c b5 b6 b7 b8 b9 => br_f (by decide) (nm_r (nI_1 i) (hw (c, b5, b6, b7, b8, b9) trivial))))))
theorem ph_law55 {post : Int32 → Prop} {L : Nat} {xs : Nat → Int32} {J10 : Int32 → Int32 → Int32 → (Nat → Int32) → (Nat → Int32) → (Nat → Int32) → (Nat → Int32) → (Nat → Int32) → (Nat → Int32) → (Nat → Int32) → (Nat → Int32) → (Nat → Int32) → Prop}
    {x2 x4 x7 : Int32} {kc ks n : Nat} {tk : Nat → Nat} (hK : ph_K n tk a4) (hD : ph_D a1 a2 a3) (h7 : ¬ x7 = 0 → ph_C tk n)
    (H : ∀ c b4 b5 b6 b7 b8 b9, ph_K n tk b4 → J10 (x2 + 1) (nI n) c a1 a2 a3 b4 b5 b6 b7 b8 b9) :
    ∃ f, wL_law_55 post L xs J10 x2 x4 (nI (ph_ct tk n)) x7 kc ks f 0 0 (nI n) oc a1 a2 a3 a4 a5 a6 a7 a8 a9 := by
  have hn := hK.1
  have hct := ph_ct_le tk n
  obtain ⟨w, hw4, ew⟩ := pk_andE (x4 >>> ((8 : Int32) &&& 31)) (m := 3) 2 (by decide)
  refine pk_loop (σ := Int32 × (Nat → Int32) × (Nat → Int32) × (Nat → Int32) × (Nat → Int32) × (Nat → Int32)) (fun f i s => wL_law_55 post L xs J10 x2 x4 (nI (ph_ct tk n)) x7 kc ks f (ph_ms (ph_hv n tk a3) i) (nI i) (nI n) s.1 a1 a2 a3 a4 s.2.1 s.2.2.1 s.2.2.2.1 s.2.2.2.2.1 s.2.2.2.2.2) (fun _ _ => True) 6 0 (oc, a5, a6, a7, a8, a9) (by omega) trivial
    (fun f s _ => pk_le 6 6 (fun _ => ph_matching hK (fun c b5 b6 b7 b8 b9 => br_t rfl ?_)) (fun z => absurd z (by omega)))
    (fun f i s hi _ hw => pk_le 6 i (fun z => absurd z (by omega)) (fun _ => ph_holds hK hi (fun c b5 b6 b7 b8 b9 => br_c (fun g => ?_) (fun g => nm_e ?_))))
  · rw [ew]
    refine ph_words (by omega) hD.2.2 (br_f (by decide) (br_c (fun _ => nm_e (H _ _ _ _ _ _ _ hK)) (fun g7 => pk_eq (ph_ct tk n) 1 (fun e => ?_) (fun _ => nm_e (H _ _ _ _ _ _ _ hK)))))
    exact ph_single hK (h7 g7) (by omega) (fun c b4 b5 b6 b7 b8 b9 hK' => br_f (by decide) (nm_e (H _ _ _ _ _ _ _ hK')))
  · refine ph_law92 hK hi h7 (fun c b5 b6 b7 b8 b9 => ?_)
    have t := hw (c, b5, b6, b7, b8, b9) trivial
    have e : ph_ms (ph_hv n tk a3) (i + 1) = ph_ms (ph_hv n tk a3) i := if_pos g
    try dsimp only at t
    rw [e] at t
    exact t
  · refine ph_law92 hK hi h7 (fun c b5 b6 b7 b8 b9 => ?_)
    have t := hw (c, b5, b6, b7, b8, b9) trivial
    have e : ph_ms (ph_hv n tk a3) (i + 1) = ph_ms (ph_hv n tk a3) i ||| ((1 : Int32) <<< (nI i &&& 31)) := if_neg g
    try dsimp only at t
    rw [e] at t
    exact t
end
def ph_I (sz : Int32) (a1 a2 a3 a4 : Nat → Int32) : Prop := ∃ n tk, sz = nI n ∧ ph_K n tk a4 ∧ ph_D a1 a2 a3
theorem ph_law10 {xs : Nat → Int32} {L kc ks f i : Nat} (hL : L ≤ 260) (hi : i < L) {sz oc : Int32} {a1 a2 a3 a4 a5 a6 a7 a8 a9 : Nat → Int32} (hI : ph_I sz a1 a2 a3 a4)
    (H : ∀ s c b1 b2 b3 b4 b5 b6 b7 b8 b9, ph_I s b1 b2 b3 b4 → wL_law_10 (fun r => r = 1) L xs kc ks f (nI (i + 1)) s c b1 b2 b3 b4 b5 b6 b7 b8 b9) :
    wL_law_10 (fun r => r = 1) L xs kc ks (f + 1) (nI i) sz oc a1 a2 a3 a4 a5 a6 a7 a8 a9 := by
  obtain ⟨n, tk, rfl, hK, hD⟩ := hI
  refine pk_le L i (fun z => absurd z (by omega)) (fun _ => ⟨pk_in i L hi, nm_e ⟨pk_in i L hi, nm_e ?_⟩⟩)
  refine ph_call hK hD (fun m tk' c b1 b2 b3 b4 b5 b6 b7 hK' hD' => ph_has hK' (ph_complete hK' (fun hC c b5 b6 b7 => ?_) (fun hC c b5 b6 b7 _ => ?_)))
  · exact ph_law55 hK' hD' (fun z => absurd rfl z) (fun c b4 b5 b6 b7 b8 b9 h => by rw [nI_1]; exact H _ _ _ _ _ _ _ _ _ _ _ ⟨m, tk', rfl, h, hD'⟩)
  · exact ph_law55 hK' hD' (fun _ => hC) (fun c b4 b5 b6 b7 b8 b9 h => by rw [nI_1]; exact H _ _ _ _ _ _ _ _ _ _ _ ⟨m, tk', rfl, h, hD'⟩)
theorem ph_I0 : ph_I 0 (fun _ => 0) (fun _ => 0) (fun _ => 0) (fun _ => 0) :=
  ⟨0, fun _ => 0, rfl, ⟨by omega, fun j hj => absurd hj (by omega), fun j hj => absurd hj (by omega)⟩, ⟨fun j _ => ⟨0, by omega, rfl⟩, fun j _ => ⟨0, by omega, rfl⟩, fun j _ => ph_lo_0⟩⟩
theorem i_vc (xs : Nat → Int32) (L : Nat) (hL : L ≤ 260) : wpL_law (fun r => r = 1) L xs := by
  unfold wpL_law
  refine ⟨9, 574, by decide, by decide, ?_⟩
  unfold wpX_init
  refine ⟨by decide, by decide, by decide, by decide, by decide, by decide, by decide, by decide, by decide, by decide, by decide, by decide, by decide, by decide, by decide, by decide, by decide, by decide, ?_⟩
  exact pk_loop (σ := St1) (fun f i s => wL_law_10 (fun r => r = 1) L xs (1 + 9) (11 + 574) f (nI i) s.1 s.2.1 s.2.2.1 s.2.2.2.1 s.2.2.2.2.1 s.2.2.2.2.2.1 s.2.2.2.2.2.2.1 s.2.2.2.2.2.2.2.1 s.2.2.2.2.2.2.2.2.1 s.2.2.2.2.2.2.2.2.2.1 s.2.2.2.2.2.2.2.2.2.2)
    (fun _ s => ph_I s.1 s.2.2.1 s.2.2.2.1 s.2.2.2.2.1 s.2.2.2.2.2.1) L 0 (0, 0, (fun _ => 0), (fun _ => 0), (fun _ => 0), (fun _ => 0), (fun _ => 0), (fun _ => 0), (fun _ => 0), (fun _ => 0), (fun _ => 0)) (by omega) ph_I0
    (fun f s h => pk_le L L (fun _ => rfl) (fun z => absurd z (by omega)))
    (fun f i s hi h hw => ph_law10 hL hi h (fun s c b1 b2 b3 b4 b5 b6 b7 b8 b9 g => hw (s, c, b1, b2, b3, b4, b5, b6, b7, b8, b9) g))
end
