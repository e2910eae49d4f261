section
theorem pk_us {f : Nat → Int32} {k : Nat} {x : Int32} : upd f k x k = x := if_pos rfl
theorem pk_un {f : Nat → Int32} {k j : Nat} {x : Int32} (h : j ≠ k) : upd f k x j = f j := if_neg h
theorem pk_sub {a b : Nat} (h : b ≤ a) : nI a - nI b = nI (a - b) := by
  obtain ⟨c, rfl⟩ : ∃ c, a = c + b := ⟨a - b, by omega⟩
  rw [← nI_add, Int32.add_sub_cancel, Nat.add_sub_cancel]
theorem pk_m1 (n : Nat) : nI (n + 1) + (-1) = nI n := by
  rw [← nI_1, Int32.add_assoc, show (1 : Int32) + (-1) = 0 from rfl, Int32.add_zero]
theorem pk_mul (a b : Nat) : nI a * nI b = nI (a * b) := (Int32.ofNat_mul a b).symm
theorem pk_ix (x : Int32) {n : Nat} (hn : n < 2 ^ 31) : x < 0 ∨ nI n ≤ x ∨ ∃ j : Nat, j < n ∧ x = nI j := by
  by_cases h : x < 0
  · exact Or.inl h
  · obtain ⟨j, hj, rfl⟩ := nI_of h
    by_cases h2 : j < n
    · exact Or.inr (Or.inr ⟨j, h2, rfl⟩)
    · exact Or.inr (Or.inl (nI_le (by omega) hj))
theorem pk_le {x y : Int32} {A B : Prop} (a b : Nat) (f : a ≤ b → A) (g : b < a → B) (hx : x = nI a := by rfl) (hy : y = nI b := by rfl) (ha : a < 2 ^ 31 := by omega) (hb : b < 2 ^ 31 := by omega) : (x ≤ y → A) ∧ (¬ x ≤ y → B) := by
  subst hx hy
  rw [nI_leI ha hb]
  exact ⟨f, fun z => g (by omega)⟩
theorem pk_lt {x y : Int32} {A B : Prop} (a b : Nat) (f : a < b → A) (g : b ≤ a → B) (hx : x = nI a := by rfl) (hy : y = nI b := by rfl) (ha : a < 2 ^ 31 := by omega) (hb : b < 2 ^ 31 := by omega) : (x < y → A) ∧ (¬ x < y → B) := by
  subst hx hy
  rw [nI_ltI ha hb]
  exact ⟨f, fun z => g (by omega)⟩
theorem pk_eq {x y : Int32} {A B : Prop} (a b : Nat) (f : a = b → A) (g : a ≠ b → B) (hx : x = nI a := by rfl) (hy : y = nI b := by rfl) (ha : a < 2 ^ 31 := by omega) (hb : b < 2 ^ 31 := by omega) : (x = y → A) ∧ (¬ x = y → B) := by
  subst hx hy
  rw [nI_eq ha hb]
  exact ⟨f, g⟩
theorem pk_in {x : Int32} (n N : Nat) (h : n < N) (hx : x = nI n := by rfl) (hN : N < 2 ^ 31 := by omega) : vp_in x N := by
  subst hx
  exact vp_in_nI h hN
theorem pk_cl {x : Int32} (n : Nat) (hx : x = nI n := by rfl) (h : n < 2 ^ 31 := by omega) : x.toNatClampNeg = n := by
  subst hx
  exact nI_clamp h
def bt (x : Int32) (i : Nat) : Bool := x.toBitVec.getLsbD i
theorem b_ext {x y : Int32} (h : ∀ i, i < 32 → bt x i = bt y i) : x = y := Int32.toBitVec_inj.mp (BitVec.eq_of_getLsbD_eq (fun i hi => h i hi))
theorem b_or (x y : Int32) (i : Nat) : bt (x ||| y) i = (bt x i || bt y i) := by unfold bt; rw [Int32.toBitVec_or, BitVec.getLsbD_or]
theorem b_and (x y : Int32) (i : Nat) : bt (x &&& y) i = (bt x i && bt y i) := by unfold bt; rw [Int32.toBitVec_and, BitVec.getLsbD_and]
theorem b_xor (x y : Int32) (i : Nat) : bt (x ^^^ y) i = (bt x i ^^ bt y i) := by unfold bt; rw [Int32.toBitVec_xor, BitVec.getLsbD_xor]
theorem b_big {x : Int32} {i : Nat} (h : 32 ≤ i) : bt x i = false := BitVec.getLsbD_of_ge _ _ h
theorem b_m1 : ∀ i, i < 32 → bt (-1) i = true := by decide +kernel
theorem b_0 (i : Nat) : bt 0 i = false := BitVec.getLsbD_zero

theorem nl_ne1 {j : Nat} (h : j < 2 ^ 31) : ¬ nI j = -1 := fun e => nI_pos h (e ▸ (by decide : (-1 : Int32) < 0))
theorem nl_sh {t : Nat} (ht : t < 32) (i : Nat) : bt ((1 : Int32) <<< (nI t &&& 31)) i = decide (i = t) := by
  rcases Nat.lt_or_ge i 32 with h | h
  · exact (by decide +kernel : ∀ t, t < 32 → ∀ i, i < 32 → bt ((1 : Int32) <<< (nI t &&& 31)) i = decide (i = t)) t ht i h
  · rw [b_big h, decide_eq_false (by omega)]
theorem nl_bz {m : Int32} {t : Nat} (ht : t < 32) : (m &&& ((1 : Int32) <<< (nI t &&& 31))) = 0 ↔ bt m t = false := by
  constructor
  · intro h
    have h2 : bt (m &&& ((1 : Int32) <<< (nI t &&& 31))) t = bt 0 t := by rw [h]
    rw [b_and, nl_sh ht, b_0, decide_eq_true rfl, Bool.and_true] at h2
    exact h2
  · intro h
    apply b_ext
    intro i _
    rw [b_and, nl_sh ht, b_0]
    by_cases e : i = t
    · subst e; rw [h, Bool.false_and]
    · rw [decide_eq_false e, Bool.and_false]
theorem nl_bnz {m : Int32} {t : Nat} (ht : t < 32) : ¬ (m &&& ((1 : Int32) <<< (nI t &&& 31))) = 0 ↔ bt m t = true := by
  rw [nl_bz ht]
  cases bt m t <;> decide
theorem nl_an (x m : Int32) (i : Nat) : bt (x &&& (m ^^^ (-1))) i = (bt x i && !bt m i) := by
  rcases Nat.lt_or_ge i 32 with h | h
  · rw [b_and, b_xor, b_m1 i h, Bool.xor_true]
  · rw [b_big h, b_big (x := x) h, Bool.false_and]
theorem nl_m0 {m : Int32} : m = 0 ↔ ∀ i, bt m i = false :=
  ⟨fun h i => by rw [h, b_0], fun h => b_ext (fun i _ => by rw [h i, b_0])⟩
theorem nl_lt32 {m : Int32} {i : Nat} (h : bt m i = true) : i < 32 := by
  rcases Nat.lt_or_ge i 32 with h1 | h1
  · exact h1
  · rw [b_big h1] at h; exact absurd h (by decide)
theorem nl_nt {x : Bool} (h : ¬ x = true) : x = false := by cases x; rfl; exact absurd rfl h
theorem nl_nf {x : Bool} (h : ¬ x = false) : x = true := by cases x; exact absurd rfl h; rfl
theorem nl_bb {x y : Bool} (h : x = true ↔ y = true) : x = y := by
  cases x <;> cases y <;> simp_all
end
section
def nl_lv (st : Nat → Int32) (t : Nat) : Bool := decide (st t = 0) || decide (st t = 1)
def nl_TR (b : Nat) (pa ln : Nat → Int32) : Prop := ∀ t, t < b → (pa t = -1 ∧ ∀ a, bt (ln t) a = decide (a = t)) ∨ (∃ j, j < t ∧ pa t = nI j ∧ ∀ a, bt (ln t) a = (decide (a = t) || bt (ln j) a))
theorem nl_lv_i {st : Nat → Int32} {t : Nat} : nl_lv st t = true ↔ (st t = 0 ∨ st t = 1) := by
  unfold nl_lv
  rw [Bool.or_eq_true, decide_eq_true_eq, decide_eq_true_eq]
theorem nl_lv_3 {st : Nat → Int32} {t : Nat} (h : nl_lv st t = true) : ¬ st t = 3 := by
  rcases nl_lv_i.mp h with e | e <;> rw [e] <;> decide
section
variable {b : Nat} {pa ln st : Nat → Int32}
theorem nl_tr_self (T : nl_TR b pa ln) {t : Nat} (ht : t < b) : bt (ln t) t = true := by
  rcases T t ht with ⟨_, h⟩ | ⟨j, _, _, h⟩
  · simp [h]
  · simp [h]
theorem nl_tr_le (T : nl_TR b pa ln) : ∀ t, t < b → ∀ a, bt (ln t) a = true → a ≤ t := by
  intro t
  induction t using Nat.strongRecOn with
  | _ t ih =>
    intro ht a ha
    rcases T t ht with ⟨_, h⟩ | ⟨j, hj, _, h⟩
    · rw [h, decide_eq_true_eq] at ha; omega
    · rw [h, Bool.or_eq_true, decide_eq_true_eq] at ha
      rcases ha with e | e
      · omega
      · have := ih j hj (by omega) a e; omega
theorem nl_tr_trans (T : nl_TR b pa ln) : ∀ t, t < b → ∀ s a, bt (ln t) s = true → bt (ln s) a = true → bt (ln t) a = true := by
  intro t
  induction t using Nat.strongRecOn with
  | _ t ih =>
    intro ht s a hs ha
    rcases T t ht with ⟨_, h⟩ | ⟨j, hj, _, h⟩
    · rw [h, decide_eq_true_eq] at hs
      rw [← hs]; exact ha
    · rw [h, Bool.or_eq_true, decide_eq_true_eq] at hs
      rcases hs with e | e
      · rw [← e]; exact ha
      · rw [h, Bool.or_eq_true]
        exact Or.inr (ih j hj (by omega) s a e ha)
theorem nl_tr_lin (T : nl_TR b pa ln) : ∀ t, t < b → ∀ s a, bt (ln t) s = true → bt (ln t) a = true → a ≤ s → bt (ln s) a = true := by
  intro t
  induction t using Nat.strongRecOn with
  | _ t ih =>
    intro ht s a hs ha hle
    have ha0 := ha
    rcases T t ht with ⟨_, h⟩ | ⟨j, hj, _, h⟩
    · rw [h, decide_eq_true_eq] at hs
      rw [hs]; exact ha
    · rw [h, Bool.or_eq_true, decide_eq_true_eq] at hs ha
      rcases hs with e | e
      · rw [e]; exact ha0
      · have h1 := nl_tr_le T j (by omega) s e
        rcases ha with e2 | e2
        · omega
        · exact ih j hj (by omega) s a e e2 hle
def nl_hf (pa st : Nat → Int32) : Nat → Nat → Option Nat
  | 0, _ => none
  | n + 1, t => if nl_lv st t = true then some t else if pa t = -1 then none else nl_hf pa st n (pa t).toNatClampNeg
theorem nl_hf_l {n t : Nat} (h : nl_lv st t = true) : nl_hf pa st (n + 1) t = some t := by
  rw [nl_hf, if_pos h]
theorem nl_hf_r {n t : Nat} (h : nl_lv st t = false) (hp : pa t = -1) : nl_hf pa st (n + 1) t = none := by
  rw [nl_hf, if_neg (by rw [h]; decide), if_pos hp]
theorem nl_hf_j {n t j : Nat} (h : nl_lv st t = false) (hp : pa t = nI j) (hj : j < 2 ^ 31) : nl_hf pa st (n + 1) t = nl_hf pa st n j := by
  rw [nl_hf, if_neg (by rw [h]; decide), if_neg (by rw [hp]; exact nl_ne1 hj), hp, nI_clamp hj]
theorem nl_hf_fuel (T : nl_TR b pa ln) (hb : b ≤ 16) : ∀ t, t < b → ∀ n m, t < n → t < m → nl_hf pa st n t = nl_hf pa st m t := by
  intro t
  induction t using Nat.strongRecOn with
  | _ t ih =>
    intro ht n m hn hm
    obtain ⟨n, rfl⟩ : ∃ k, n = k + 1 := ⟨n - 1, by omega⟩
    obtain ⟨m, rfl⟩ : ∃ k, m = k + 1 := ⟨m - 1, by omega⟩
    cases hl : nl_lv st t
    · rcases T t ht with ⟨hp, _⟩ | ⟨j, hj, hp, _⟩
      · rw [nl_hf_r hl hp, nl_hf_r hl hp]
      · rw [nl_hf_j hl hp (by omega), nl_hf_j hl hp (by omega)]
        exact ih j hj (by omega) n m (by omega) (by omega)
    · rw [nl_hf_l hl, nl_hf_l hl]
def nl_hd (pa st : Nat → Int32) (t : Nat) : Option Nat := nl_hf pa st 16 t
theorem nl_hd_l {t : Nat} (h : nl_lv st t = true) : nl_hd pa st t = some t := nl_hf_l (n := 15) h
theorem nl_hd_r {t : Nat} (h : nl_lv st t = false) (hp : pa t = -1) : nl_hd pa st t = none := nl_hf_r (n := 15) h hp
theorem nl_hd_j (T : nl_TR b pa ln) (hb : b ≤ 16) {t j : Nat} (ht : t < b) (h : nl_lv st t = false) (hp : pa t = nI j) (hj : j < t) : nl_hd pa st t = nl_hd pa st j :=
  (nl_hf_j (n := 15) h hp (by omega)).trans (nl_hf_fuel T hb j (by omega) 15 16 (by omega) (by omega))
def nl_ST (b : Nat) (pa st : Nat → Int32) : Prop := (∀ t, t < b → st t = 0 ∨ st t = 1 ∨ st t = 2 ∨ st t = 3) ∧ ∀ t j, t < b → j < t → pa t = nI j → (nl_lv st t = true → nl_lv st j = true) ∧ (st j = 3 → st t = 3)
theorem nl_up (T : nl_TR b pa ln) (S : nl_ST b pa st) : ∀ t, t < b → ∀ a, bt (ln t) a = true → nl_lv st t = true → nl_lv st a = true := by
  intro t
  induction t using Nat.strongRecOn with
  | _ t ih =>
    intro ht a ha hl
    rcases T t ht with ⟨_, h⟩ | ⟨j, hj, hp, h⟩
    · rw [h, decide_eq_true_eq] at ha; rw [ha]; exact hl
    · rw [h, Bool.or_eq_true, decide_eq_true_eq] at ha
      rcases ha with e | e
      · rw [e]; exact hl
      · exact ih j hj (by omega) a e ((S.2 t j ht hj hp).1 hl)
theorem nl_hd_s (T : nl_TR b pa ln) (hb : b ≤ 16) : ∀ t, t < b → ∀ h, nl_hd pa st t = some h → nl_lv st h = true ∧ bt (ln t) h = true := by
  intro t
  induction t using Nat.strongRecOn with
  | _ t ih =>
    intro ht h e
    cases hl : nl_lv st t
    · rcases T t ht with ⟨hp, _⟩ | ⟨j, hj, hp, hs⟩
      · rw [nl_hd_r hl hp] at e; exact nomatch e
      · rw [nl_hd_j T hb ht hl hp hj] at e
        obtain ⟨h1, h2⟩ := ih j hj (by omega) h e
        exact ⟨h1, by rw [hs, h2, Bool.or_true]⟩
    · rw [nl_hd_l hl] at e
      cases e
      exact ⟨hl, nl_tr_self T ht⟩
theorem nl_hd_in (T : nl_TR b pa ln) (hb : b ≤ 16) {t : Nat} (hl : nl_lv st t = true) : ∀ s, s < b → bt (ln s) t = true → ∃ h, nl_hd pa st s = some h ∧ bt (ln h) t = true := by
  intro s
  induction s using Nat.strongRecOn with
  | _ s ih =>
    intro hs hst
    cases h : nl_lv st s
    · have hne : ¬ t = s := fun e => by rw [e, h] at hl; exact nomatch hl
      rcases T s hs with ⟨hp, hc⟩ | ⟨j, hj, hp, hc⟩
      · rw [hc, decide_eq_true_eq] at hst; exact absurd hst hne
      · rw [hc, Bool.or_eq_true, decide_eq_true_eq] at hst
        obtain ⟨g, h1, h2⟩ := ih j hj (by omega) (hst.resolve_left hne)
        exact ⟨g, (nl_hd_j T hb hs h hp hj).trans h1, h2⟩
    · exact ⟨s, nl_hd_l h, hst⟩
theorem nl_hf_cg (T : nl_TR b pa ln) (hb : b ≤ 16) {pa' st' : Nat → Int32} (hp : ∀ s, s < b → pa' s = pa s) (hl : ∀ s, s < b → nl_lv st' s = nl_lv st s) : ∀ n s, s < b → nl_hf pa' st' n s = nl_hf pa st n s := by
  intro n
  induction n with
  | zero => intro s _; rfl
  | succ n ih =>
    intro s hs
    cases h : nl_lv st s
    · rcases T s hs with ⟨h1, _⟩ | ⟨j, hj, h1, _⟩
      · rw [nl_hf_r h h1, nl_hf_r ((hl s hs).trans h) ((hp s hs).trans h1)]
      · rw [nl_hf_j h h1 (by omega), nl_hf_j ((hl s hs).trans h) ((hp s hs).trans h1) (by omega)]
        exact ih j (by omega)
    · rw [nl_hf_l h, nl_hf_l ((hl s hs).trans h)]
def nl_eh (pa st : Nat → Int32) (t : Nat) : Option (Option Nat) := if st t = 3 then none else some (nl_hd pa st t)
theorem nl_eh_3 {t : Nat} (h : st t = 3) : nl_eh pa st t = none := if_pos h
theorem nl_eh_n {t : Nat} (h : ¬ st t = 3) : nl_eh pa st t = some (nl_hd pa st t) := if_neg h
theorem nl_eh_l {t : Nat} (h : nl_lv st t = true) : nl_eh pa st t = some (some t) := by
  rw [nl_eh_n (nl_lv_3 h), nl_hd_l h]
theorem nl_eh_s (T : nl_TR b pa ln) (hb : b ≤ 16) {t h : Nat} (ht : t < b) (e : nl_eh pa st t = some (some h)) : nl_lv st h = true ∧ bt (ln t) h = true ∧ h < b := by
  by_cases c : st t = 3
  · rw [nl_eh_3 c] at e; exact nomatch e
  · rw [nl_eh_n c] at e
    obtain ⟨h1, h2⟩ := nl_hd_s T hb t ht h (Option.some.inj e)
    have := nl_tr_le T t ht h h2
    exact ⟨h1, h2, by omega⟩
theorem nl_eh_cg (T : nl_TR b pa ln) (hb : b ≤ 16) {pa' st' : Nat → Int32} (hp : ∀ s, s < b → pa' s = pa s) (hl : ∀ s, s < b → nl_lv st' s = nl_lv st s) (h3 : ∀ s, s < b → (st' s = 3 ↔ st s = 3)) {s : Nat} (hs : s < b) : nl_eh pa' st' s = nl_eh pa st s := by
  by_cases c : st s = 3
  · rw [nl_eh_3 c, nl_eh_3 ((h3 s hs).mpr c)]
  · rw [nl_eh_n c, nl_eh_n (fun z => c ((h3 s hs).mp z))]
    exact congrArg some (nl_hf_cg T hb hp hl 16 s hs)
def nl_pp (pa : Nat → Int32) (t : Nat) : Option Nat := if pa t = -1 then none else some (pa t).toNatClampNeg
theorem nl_pp_r {t : Nat} (h : pa t = -1) : nl_pp pa t = none := if_pos h
theorem nl_pp_j {t j : Nat} (h : pa t = nI j) (hj : j < 2 ^ 31) : nl_pp pa t = some j := by
  unfold nl_pp
  rw [if_neg (by rw [h]; exact nl_ne1 hj), h, nI_clamp hj]
theorem nl_lv_u2 {t : Nat} : nl_lv (upd st t 2) t = false := by
  unfold nl_lv
  rw [pk_us]; decide
theorem nl_lv_un {s t : Nat} {y : Int32} (h : s ≠ t) : nl_lv (upd st t y) s = nl_lv st s := by
  unfold nl_lv
  rw [pk_un h]
theorem nl_hd_co (T : nl_TR b pa ln) (S : nl_ST b pa st) (hb : b ≤ 16) {t : Nat} (ht : t < b) (hl : nl_lv st t = true) : ∀ s, s < b → nl_hd pa (upd st t 2) s = if nl_hd pa st s = some t then nl_pp pa t else nl_hd pa st s := by
  intro s
  induction s using Nat.strongRecOn with
  | _ s ih =>
    intro hs
    by_cases e : s = t
    · subst e
      rw [nl_hd_l hl, if_pos rfl]
      rcases T s hs with ⟨hp, _⟩ | ⟨j, hj, hp, _⟩
      · rw [nl_hd_r nl_lv_u2 hp, nl_pp_r hp]
      · rw [nl_hd_j T hb hs nl_lv_u2 hp hj, nl_pp_j hp (by omega)]
        exact nl_hd_l ((nl_lv_un (by omega)).trans ((S.2 s j hs hj hp).1 hl))
    · cases h : nl_lv st s
      · rcases T s hs with ⟨hp, _⟩ | ⟨j, hj, hp, _⟩
        · rw [nl_hd_r ((nl_lv_un e).trans h) hp, nl_hd_r h hp, if_neg (fun z => nomatch z)]
        · rw [nl_hd_j T hb hs ((nl_lv_un e).trans h) hp hj, nl_hd_j T hb hs h hp hj]
          exact ih j hj (by omega)
      · rw [nl_hd_l ((nl_lv_un e).trans h), nl_hd_l h, if_neg (fun z => e (Option.some.inj z))]
def nl_mv (t : Nat) (p : Option Nat) (e : Option (Option Nat)) : Option (Option Nat) := if e = some (some t) then some p else e
theorem nl_eh_co (T : nl_TR b pa ln) (S : nl_ST b pa st) (hb : b ≤ 16) {t : Nat} (ht : t < b) (hl : nl_lv st t = true) {s : Nat} (hs : s < b) : nl_eh pa (upd st t 2) s = nl_mv t (nl_pp pa t) (nl_eh pa st s) := by
  have h3 : upd st t 2 s = 3 ↔ st s = 3 := by
    by_cases e : s = t
    · subst e
      rw [pk_us]
      exact ⟨fun z => absurd z (by decide), fun z => absurd z (nl_lv_3 hl)⟩
    · rw [pk_un e]
  unfold nl_mv
  by_cases c : st s = 3
  · rw [nl_eh_3 c, nl_eh_3 (h3.mpr c), if_neg (fun z => nomatch z)]
  · rw [nl_eh_n c, nl_eh_n (fun z => c (h3.mp z)), nl_hd_co T S hb ht hl s hs]
    by_cases d : nl_hd pa st s = some t
    · rw [if_pos d, if_pos (congrArg some d)]
    · rw [if_neg d, if_neg (fun z => d (Option.some.inj z))]
def nl_cut (ln : Nat → Int32) (t : Nat) : Option (Option Nat) → Option (Option Nat)
  | none => none
  | some none => some none
  | some (some h) => if bt (ln h) t = true then none else some (some h)
theorem nl_hd_out (T : nl_TR b pa ln) (hb : b ≤ 16) {st' : Nat → Int32} {t : Nat} (h' : ∀ s, s < b → bt (ln s) t = false → st' s = st s) : ∀ s, s < b → bt (ln s) t = false → nl_hd pa st' s = nl_hd pa st s := by
  intro s
  induction s using Nat.strongRecOn with
  | _ s ih =>
    intro hs hc
    have hl : nl_lv st' s = nl_lv st s := by unfold nl_lv; rw [h' s hs hc]
    cases h : nl_lv st s
    · rcases T s hs with ⟨hp, _⟩ | ⟨j, hj, hp, hf⟩
      · rw [nl_hd_r (hl.trans h) hp, nl_hd_r h hp]
      · rw [nl_hd_j T hb hs (hl.trans h) hp hj, nl_hd_j T hb hs h hp hj]
        rw [hf, Bool.or_eq_false_iff] at hc
        exact ih j hj (by omega) hc.2
    · rw [nl_hd_l (hl.trans h), nl_hd_l h]
theorem nl_eh_ab (T : nl_TR b pa ln) (hb : b ≤ 16) {st' : Nat → Int32} {t : Nat} (hl : nl_lv st t = true) (h1 : ∀ s, s < b → bt (ln s) t = true → st' s = 3) (h2 : ∀ s, s < b → bt (ln s) t = false → st' s = st s) {s : Nat} (hs : s < b) : nl_eh pa st' s = nl_cut ln t (nl_eh pa st s) := by
  cases c : bt (ln s) t
  · have e := h2 s hs c
    by_cases d : st s = 3
    · rw [nl_eh_3 d, nl_eh_3 (e.trans d), nl_cut]
    · rw [nl_eh_n d, nl_eh_n (fun z => d (e.symm.trans z)), nl_hd_out T hb h2 s hs c]
      cases g : nl_hd pa st s with
      | none => rfl
      | some h =>
        have k := nl_hd_s T hb s hs h g
        rw [nl_cut, if_neg]
        intro z
        rw [nl_tr_trans T s hs h t k.2 z] at c
        exact nomatch c
  · rw [nl_eh_3 (h1 s hs c)]
    by_cases d : st s = 3
    · rw [nl_eh_3 d, nl_cut]
    · obtain ⟨h, g1, g2⟩ := nl_hd_in T hb hl s hs c
      rw [nl_eh_n d, g1, nl_cut, if_pos g2]
end
end
section
def nl_RD (E : Nat → Option (Option Nat)) (kd ob : Nat → Int32) (L : Nat) (x : Int32) (h : Nat) : Prop := ∃ i, i < L ∧ kd i = 0 ∧ ob i = x ∧ E i = some (some h)
def nl_WR (E : Nat → Option (Option Nat)) (kd ob : Nat → Int32) (L : Nat) (x : Int32) (h : Nat) : Prop := ∃ i, i < L ∧ (kd i = 1 ∨ kd i = 2) ∧ ob i = x ∧ E i = some (some h)
def nl_on (ln : Nat → Int32) (h : Nat) : Option Nat → Bool
  | none => false
  | some t => bt (ln t) h
def nl_ok (ln : Nat → Int32) (t : Option Nat) : Option (Option Nat) → Bool
  | none => false
  | some none => true
  | some (some h) => nl_on ln h t
def nl_se (E : Nat → Option (Option Nat)) (kd ob ln : Nat → Int32) (t : Option Nat) (x : Int32) (i : Nat) : Bool := decide (¬ kd i = 3) && (decide (ob i = x) && nl_ok ln t (E i))
def nl_s1 (k o v : Int32) : Int32 := if k = 1 then o else if k = 2 then v + o else v
def nl_vw (s : Nat → Bool) (kd op : Nat → Int32) (b0 : Int32) : Nat → Int32
  | 0 => b0
  | n + 1 => if s n = true then nl_s1 (kd n) (op n) (nl_vw s kd op b0 n) else nl_vw s kd op b0 n
theorem nl_s1_1 {o v : Int32} : nl_s1 1 o v = o := if_pos rfl
theorem nl_s1_2 {o v : Int32} : nl_s1 2 o v = v + o := (if_neg (by decide)).trans (if_pos rfl)
theorem nl_s1_n {k o v : Int32} (h1 : ¬ k = 1) (h2 : ¬ k = 2) : nl_s1 k o v = v := (if_neg h1).trans (if_neg h2)
theorem nl_vw_t {s : Nat → Bool} {kd op : Nat → Int32} {b0 : Int32} {n : Nat} (h : s n = true) : nl_vw s kd op b0 (n + 1) = nl_s1 (kd n) (op n) (nl_vw s kd op b0 n) := by
  rw [nl_vw, if_pos h]
theorem nl_vw_f {s : Nat → Bool} {kd op : Nat → Int32} {b0 : Int32} {n : Nat} (h : s n = false) : nl_vw s kd op b0 (n + 1) = nl_vw s kd op b0 n := by
  rw [nl_vw, if_neg (by rw [h]; decide)]
theorem nl_vw_n {s : Nat → Bool} {kd op : Nat → Int32} {b0 : Int32} {n : Nat} (h1 : ¬ kd n = 1) (h2 : ¬ kd n = 2) : nl_vw s kd op b0 (n + 1) = nl_vw s kd op b0 n := by
  cases h : s n
  · exact nl_vw_f h
  · rw [nl_vw_t h, nl_s1_n h1 h2]
theorem nl_vw_cg {s s' : Nat → Bool} {kd kd' op op' : Nat → Int32} {b0 : Int32} : ∀ n, (∀ i, i < n → kd' i = kd i) → (∀ i, i < n → op' i = op i) → (∀ i, i < n → (kd i = 1 ∨ kd i = 2) → s' i = s i) → nl_vw s' kd' op' b0 n = nl_vw s kd op b0 n := by
  intro n
  induction n with
  | zero => intro _ _ _; rfl
  | succ n ih =>
    intro hk ho hs
    have h0 := ih (fun i hi => hk i (by omega)) (fun i hi => ho i (by omega)) (fun i hi => hs i (by omega))
    have hkn := hk n (by omega)
    by_cases c : kd n = 1 ∨ kd n = 2
    · have e := hs n (by omega) c
      cases h : s n
      · rw [nl_vw_f h, nl_vw_f (e.trans h), h0]
      · rw [nl_vw_t h, nl_vw_t (e.trans h), h0, hkn, ho n (by omega)]
    · rw [nl_vw_n (fun z => c (Or.inl z)) (fun z => c (Or.inr z)), nl_vw_n (fun z => c (Or.inl (hkn.symm.trans z))) (fun z => c (Or.inr (hkn.symm.trans z))), h0]
def nl_V (E : Nat → Option (Option Nat)) (kd ob op ln : Nat → Int32) (L : Nat) (b0 x : Int32) (t : Option Nat) : Int32 := nl_vw (nl_se E kd ob ln t x) kd op b0 L
def nl_OB (E : Nat → Option (Option Nat)) (kd ob op ln : Nat → Int32) (L : Nat) (b0 x r w s : Int32) (v : Nat → Int32) : Prop :=
  (∀ h, bt r h = true ↔ nl_RD E kd ob L x h) ∧ (∀ h, bt w h = true ↔ nl_WR E kd ob L x h) ∧ (∀ g h, bt w g = true → (bt w h = true ∨ bt r h = true) → bt (ln h) g = true ∨ bt (ln g) h = true) ∧ s = nl_V E kd ob op ln L b0 x none ∧ ∀ h, bt w h = true → v h = nl_V E kd ob op ln L b0 x (some h)
section
variable {E E' : Nat → Option (Option Nat)} {kd kd' ob ob' op op' ln ln' pa v v' : Nat → Int32} {L b t : Nat} {b0 x r w s r' w' s' : Int32}
theorem nl_se_c {i i' : Nat} {t t' : Option Nat} (h1 : kd' i = kd i) (h2 : ob' i = ob i) (h : ob i = x → nl_ok ln' t' (E' i) = nl_ok ln t (E i)) : nl_se E' kd' ob' ln' t' x i = nl_se E kd ob ln t x i := by
  unfold nl_se
  rw [h1, h2]
  by_cases c : ob i = x
  · rw [h c]
  · rw [decide_eq_false c, Bool.false_and, Bool.false_and]
theorem nl_RD_ag (hE : ∀ i, i < L → E' i = E i) (hk : ∀ i, i < L → kd' i = kd i) (ho : ∀ i, i < L → ob' i = ob i) {h : Nat} : nl_RD E' kd' ob' L x h ↔ nl_RD E kd ob L x h := by
  constructor
  · rintro ⟨i, hi, h1, h2, h3⟩
    exact ⟨i, hi, (hk i hi).symm.trans h1, (ho i hi).symm.trans h2, (hE i hi).symm.trans h3⟩
  · rintro ⟨i, hi, h1, h2, h3⟩
    exact ⟨i, hi, (hk i hi).trans h1, (ho i hi).trans h2, (hE i hi).trans h3⟩
theorem nl_WR_ag (hE : ∀ i, i < L → E' i = E i) (hk : ∀ i, i < L → kd' i = kd i) (ho : ∀ i, i < L → ob' i = ob i) {h : Nat} : nl_WR E' kd' ob' L x h ↔ nl_WR E kd ob L x h := by
  constructor
  · rintro ⟨i, hi, h1, h2, h3⟩
    exact ⟨i, hi, hk i hi ▸ h1, (ho i hi).symm.trans h2, (hE i hi).symm.trans h3⟩
  · rintro ⟨i, hi, h1, h2, h3⟩
    exact ⟨i, hi, (hk i hi).symm ▸ h1, (ho i hi).trans h2, (hE i hi).trans h3⟩
theorem nl_V_ag (hE : ∀ i, i < L → E' i = E i) (hk : ∀ i, i < L → kd' i = kd i) (ho : ∀ i, i < L → ob' i = ob i) (hp : ∀ i, i < L → op' i = op i) {t : Option Nat} (hl : ∀ a, t = some a → ln' a = ln a) : nl_V E' kd' ob' op' ln' L b0 x t = nl_V E kd ob op ln L b0 x t := by
  refine nl_vw_cg L hk hp (fun i hi _ => nl_se_c (i' := i) (hk i hi) (ho i hi) (fun _ => ?_))
  rw [hE i hi]
  match E i with
  | none => rfl
  | some none => rfl
  | some (some h) =>
    match t, hl with
    | none, _ => rfl
    | some a, hl =>
      show bt (ln' a) h = bt (ln a) h
      rw [hl a rfl]
theorem nl_OB_ag (O : nl_OB E kd ob op ln L b0 x r w s v) (HE : ∀ i, i < L → ∀ h, E i = some (some h) → h < b) (hE : ∀ i, i < L → E' i = E i) (hk : ∀ i, i < L → kd' i = kd i) (ho : ∀ i, i < L → ob' i = ob i) (hp : ∀ i, i < L → op' i = op i) (hl : ∀ a, a < b → ln' a = ln a) : nl_OB E' kd' ob' op' ln' L b0 x r w s v := by
  obtain ⟨o1, o2, o3, o4, o5⟩ := O
  have bw : ∀ h, bt w h = true → h < b := fun h z => by
    obtain ⟨i, hi, _, _, e⟩ := (o2 h).mp z
    exact HE i hi h e
  have br : ∀ h, bt r h = true → h < b := fun h z => by
    obtain ⟨i, hi, _, _, e⟩ := (o1 h).mp z
    exact HE i hi h e
  refine ⟨fun h => (o1 h).trans (nl_RD_ag hE hk ho).symm, fun h => (o2 h).trans (nl_WR_ag hE hk ho).symm, ?_, ?_, ?_⟩
  · intro g h hg hh
    have hb : h < b := hh.elim (bw h) (br h)
    rw [hl h hb, hl g (bw g hg)]
    exact o3 g h hg hh
  · exact o4.trans (nl_V_ag (t := none) hE hk ho hp (fun a z => nomatch z)).symm
  · intro h hh
    rw [nl_V_ag (t := some h) hE hk ho hp (fun a z => by cases z; exact hl h (bw h hh))]
    exact o5 h hh
theorem nl_RD_s {h : Nat} : nl_RD E kd ob (L + 1) x h ↔ nl_RD E kd ob L x h ∨ (kd L = 0 ∧ ob L = x ∧ E L = some (some h)) := by
  constructor
  · rintro ⟨i, hi, h1, h2, h3⟩
    by_cases c : i = L
    · subst c; exact Or.inr ⟨h1, h2, h3⟩
    · exact Or.inl ⟨i, by omega, h1, h2, h3⟩
  · rintro (⟨i, hi, h1, h2, h3⟩ | ⟨h1, h2, h3⟩)
    · exact ⟨i, by omega, h1, h2, h3⟩
    · exact ⟨L, by omega, h1, h2, h3⟩
theorem nl_WR_s {h : Nat} : nl_WR E kd ob (L + 1) x h ↔ nl_WR E kd ob L x h ∨ ((kd L = 1 ∨ kd L = 2) ∧ ob L = x ∧ E L = some (some h)) := by
  constructor
  · rintro ⟨i, hi, h1, h2, h3⟩
    by_cases c : i = L
    · subst c; exact Or.inr ⟨h1, h2, h3⟩
    · exact Or.inl ⟨i, by omega, h1, h2, h3⟩
  · rintro (⟨i, hi, h1, h2, h3⟩ | ⟨h1, h2, h3⟩)
    · exact ⟨i, by omega, h1, h2, h3⟩
    · exact ⟨L, by omega, h1, h2, h3⟩
theorem nl_OB_o (O : nl_OB E kd ob op ln L b0 x r w s v) (h : kd L = 3 ∨ ¬ ob L = x) : nl_OB E kd ob op ln (L + 1) b0 x r w s v := by
  obtain ⟨o1, o2, o3, o4, o5⟩ := O
  have hs : ∀ t, nl_V E kd ob op ln (L + 1) b0 x t = nl_V E kd ob op ln L b0 x t := fun t => by
    apply nl_vw_f
    unfold nl_se
    rcases h with h | h
    · rw [decide_eq_false (fun z => z h), Bool.false_and]
    · rw [decide_eq_false h, Bool.false_and, Bool.and_false]
  refine ⟨fun g => (o1 g).trans ?_, fun g => (o2 g).trans ?_, o3, o4.trans (hs none).symm, fun g hg => (o5 g hg).trans (hs (some g)).symm⟩
  · rw [nl_RD_s]
    refine ⟨Or.inl, fun z => z.resolve_right ?_⟩
    rintro ⟨h1, h2, _⟩
    rcases h with h | h
    · rw [h] at h1; exact absurd h1 (by decide)
    · exact h h2
  · rw [nl_WR_s]
    refine ⟨Or.inl, fun z => z.resolve_right ?_⟩
    rintro ⟨h1, h2, _⟩
    rcases h with h | h
    · rw [h] at h1; exact absurd h1 (by decide)
    · exact h h2
theorem nl_OB_r (O : nl_OB E kd ob op ln L b0 x r w s v) (hk : kd L = 0) (ho : ob L = x) (hE : E L = some (some t)) (hm : ∀ h, bt w h = true → bt (ln t) h = true) (hr : ∀ h, bt r' h = (bt r h || decide (h = t))) : nl_OB E kd ob op ln (L + 1) b0 x r' w s v := by
  obtain ⟨o1, o2, o3, o4, o5⟩ := O
  have hs : ∀ t, nl_V E kd ob op ln (L + 1) b0 x t = nl_V E kd ob op ln L b0 x t := fun t =>
    nl_vw_n (by rw [hk]; decide) (by rw [hk]; decide)
  refine ⟨fun g => ?_, fun g => (o2 g).trans ?_, ?_, o4.trans (hs none).symm, fun g hg => (o5 g hg).trans (hs (some g)).symm⟩
  · rw [nl_RD_s, hr, Bool.or_eq_true, o1 g, decide_eq_true_eq]
    constructor
    · rintro (z | z)
      · exact Or.inl z
      · exact Or.inr ⟨hk, ho, z ▸ hE⟩
    · rintro (z | ⟨_, _, z⟩)
      · exact Or.inl z
      · rw [hE] at z; exact Or.inr (Option.some.inj (Option.some.inj z)).symm
  · rw [nl_WR_s]
    refine ⟨Or.inl, fun z => z.resolve_right ?_⟩
    rintro ⟨h1, _, _⟩
    rw [hk] at h1; exact absurd h1 (by decide)
  · intro g h hg hh
    rw [hr, Bool.or_eq_true, decide_eq_true_eq] at hh
    rcases hh with z | z | z
    · exact o3 g h hg (Or.inl z)
    · exact o3 g h hg (Or.inr z)
    · rw [z]; exact Or.inl (hm g hg)
theorem nl_OB_w (T : nl_TR b pa ln) (O : nl_OB E kd ob op ln L b0 x r w s v) (HE : ∀ i, i < L → ∀ h, E i = some (some h) → h < b) (ht : t < b) (hk : kd L = 1 ∨ kd L = 2) (ho : ob L = x) (hE : E L = some (some t)) (hm : ∀ h, bt w h = true ∨ bt r h = true → bt (ln t) h = true) (hw : ∀ h, bt w' h = (bt w h || decide (h = t))) (hv : ∀ h, v' h = if h = t then nl_s1 (kd L) (op L) (nl_V E kd ob op ln L b0 x (some t)) else v h) : nl_OB E kd ob op ln (L + 1) b0 x r w' s v' := by
  obtain ⟨o1, o2, o3, o4, o5⟩ := O
  have hk3 : ¬ kd L = 3 := fun z => by rw [z] at hk; exact absurd hk (by decide)
  have hk0 : ¬ kd L = 0 := fun z => by rw [z] at hk; exact absurd hk (by decide)
  have hsel : ∀ g, nl_se E kd ob ln g x L = nl_on ln t g := fun g => by
    unfold nl_se
    rw [decide_eq_true hk3, decide_eq_true ho, hE, Bool.true_and, Bool.true_and]
    rfl
  refine ⟨fun g => (o1 g).trans ?_, fun g => ?_, ?_, ?_, ?_⟩
  · rw [nl_RD_s]
    exact ⟨Or.inl, fun z => z.resolve_right (fun z => hk0 z.1)⟩
  · rw [nl_WR_s, hw, Bool.or_eq_true, o2 g, decide_eq_true_eq]
    constructor
    · rintro (z | z)
      · exact Or.inl z
      · exact Or.inr ⟨hk, ho, z ▸ hE⟩
    · rintro (z | ⟨_, _, z⟩)
      · exact Or.inl z
      · rw [hE] at z; exact Or.inr (Option.some.inj (Option.some.inj z)).symm
  · intro g h hg hh
    rw [hw, Bool.or_eq_true, decide_eq_true_eq] at hg
    have hh2 : (bt w h = true ∨ bt r h = true) ∨ h = t := by
      rcases hh with z | z
      · rw [hw, Bool.or_eq_true, decide_eq_true_eq] at z
        exact z.elim (fun z => Or.inl (Or.inl z)) Or.inr
      · exact Or.inl (Or.inr z)
    rcases hg with hg | hg
    · rcases hh2 with z | z
      · exact o3 g h hg z
      · rw [z]; exact Or.inl (hm g (Or.inl hg))
    · rcases hh2 with z | z
      · rw [hg]; exact Or.inr (hm h z)
      · rw [hg, z]; exact Or.inl (nl_tr_self T ht)
  · rw [o4]
    exact (nl_vw_f (hsel none)).symm
  · intro h hh
    rw [hv]
    by_cases c : h = t
    · rw [if_pos c, c]
      exact (nl_vw_t ((hsel (some t)).trans (nl_tr_self T ht))).symm
    · rw [if_neg c]
      rw [hw, Bool.or_eq_true, decide_eq_true_eq] at hh
      have hh := hh.resolve_right c
      rw [o5 h hh]
      refine (nl_vw_f ((hsel (some h)).trans (nl_nt fun z => ?_))).symm
      have h1 := nl_tr_le T t ht h (hm h (Or.inl hh))
      obtain ⟨i, hi, _, _, e⟩ := (o2 h).mp hh
      have h2 := nl_tr_le T h (HE i hi h e) t z
      omega
theorem nl_V_n (O : nl_OB E kd ob op ln L b0 x r w s v) (hm : ∀ h, bt w h = true → bt (ln t) h = false) : nl_V E kd ob op ln L b0 x (some t) = nl_V E kd ob op ln L b0 x none := by
  refine nl_vw_cg L (fun _ _ => rfl) (fun _ _ => rfl) (fun i hi hk => nl_se_c (i' := i) rfl rfl (fun ho => ?_))
  cases e : E i with
  | none => rfl
  | some z =>
    cases z with
    | none => rfl
    | some h => exact hm h ((O.2.1 h).mpr ⟨i, hi, hk, ho, e⟩)
theorem nl_V_t (T : nl_TR b pa ln) (O : nl_OB E kd ob op ln L b0 x r w s v) (ht : t < b) {g : Nat} (hg : bt (ln t) g = true) (hx : ∀ h, bt w h = true → bt (ln t) h = true → h ≤ g) : nl_V E kd ob op ln L b0 x (some t) = nl_V E kd ob op ln L b0 x (some g) := by
  refine nl_vw_cg L (fun _ _ => rfl) (fun _ _ => rfl) (fun i hi hk => nl_se_c (i' := i) rfl rfl (fun ho => ?_))
  cases e : E i with
  | none => rfl
  | some z =>
    cases z with
    | none => rfl
    | some h =>
      show bt (ln t) h = bt (ln g) h
      have hh := (O.2.1 h).mpr ⟨i, hi, hk, ho, e⟩
      apply nl_bb
      exact ⟨fun z => nl_tr_lin T t ht g h hg z (hx h hh z), fun z => nl_tr_trans T t ht g h hg z⟩
end
end
section
section
variable {E E' : Nat → Option (Option Nat)} {kd ob op ln pa v v' : Nat → Int32} {L b t : Nat} {b0 x r w s r' w' s' m : Int32}
theorem nl_cut_s {e : Option (Option Nat)} {h : Nat} : nl_cut ln t e = some (some h) ↔ e = some (some h) ∧ bt (ln h) t = false := by
  match e with
  | none => exact ⟨fun z => (nomatch z), fun z => nomatch z.1⟩
  | some none => exact ⟨fun z => (nomatch z), fun z => nomatch z.1⟩
  | some (some g) =>
    rw [nl_cut]
    constructor
    · intro z
      by_cases c : bt (ln g) t = true
      · rw [if_pos c] at z; exact nomatch z
      · rw [if_neg c] at z; cases z; exact ⟨rfl, nl_nt c⟩
    · rintro ⟨z, c⟩
      cases z
      rw [if_neg (by rw [c]; decide)]
theorem nl_OB_x (T : nl_TR b pa ln) (O : nl_OB E kd ob op ln L b0 x r w s v) (HE : ∀ i, i < L → ∀ h, E i = some (some h) → h < b) (hE : ∀ i, i < L → E' i = nl_cut ln t (E i)) (hm : ∀ a, bt m a = (decide (a < b) && bt (ln a) t)) : nl_OB E' kd ob op ln L b0 x (r &&& (m ^^^ (-1))) (w &&& (m ^^^ (-1))) s v := by
  obtain ⟨o1, o2, o3, o4, o5⟩ := O
  have bw : ∀ h, bt w h = true → h < b := fun h z => by
    obtain ⟨i, hi, _, _, e⟩ := (o2 h).mp z
    exact HE i hi h e
  have br : ∀ h, bt r h = true → h < b := fun h z => by
    obtain ⟨i, hi, _, _, e⟩ := (o1 h).mp z
    exact HE i hi h e
  have key : ∀ (y : Int32) (h : Nat), (bt y h = true → h < b) → (bt (y &&& (m ^^^ (-1))) h = true ↔ bt y h = true ∧ bt (ln h) t = false) := by
    intro y h hy
    constructor
    · intro z
      rw [nl_an, hm, Bool.and_eq_true, Bool.not_eq_true'] at z
      have hb := hy z.1
      rw [decide_eq_true hb, Bool.true_and] at z
      exact z
    · rintro ⟨z1, z2⟩
      rw [nl_an, hm, z1, z2, Bool.and_false]; rfl
  refine ⟨fun h => (key r h (br h)).trans ?_, fun h => (key w h (bw h)).trans ?_, ?_, ?_, ?_⟩
  · rw [o1 h]
    constructor
    · rintro ⟨⟨i, hi, h1, h2, h3⟩, c⟩
      exact ⟨i, hi, h1, h2, by rw [hE i hi]; exact nl_cut_s.mpr ⟨h3, c⟩⟩
    · rintro ⟨i, hi, h1, h2, h3⟩
      rw [hE i hi] at h3
      obtain ⟨h4, c⟩ := nl_cut_s.mp h3
      exact ⟨⟨i, hi, h1, h2, h4⟩, c⟩
  · rw [o2 h]
    constructor
    · rintro ⟨⟨i, hi, h1, h2, h3⟩, c⟩
      exact ⟨i, hi, h1, h2, by rw [hE i hi]; exact nl_cut_s.mpr ⟨h3, c⟩⟩
    · rintro ⟨i, hi, h1, h2, h3⟩
      rw [hE i hi] at h3
      obtain ⟨h4, c⟩ := nl_cut_s.mp h3
      exact ⟨⟨i, hi, h1, h2, h4⟩, c⟩
  · intro g h hg hh
    refine o3 g h ((key w g (bw g)).mp hg).1 ?_
    rcases hh with z | z
    · exact Or.inl ((key w h (bw h)).mp z).1
    · exact Or.inr ((key r h (br h)).mp z).1
  · refine o4.trans (nl_vw_cg L (fun _ _ => rfl) (fun _ _ => rfl) (fun i hi hk => nl_se_c (i' := i) rfl rfl (fun ho => ?_))).symm
    rw [hE i hi]
    match E i with
    | none => rfl
    | some none => rfl
    | some (some g) =>
      rw [nl_cut]
      by_cases c : bt (ln g) t = true
      · rw [if_pos c]; rfl
      · rw [if_neg c]
  · intro h hh
    obtain ⟨h1, h2⟩ := (key w h (bw h)).mp hh
    refine (o5 h h1).trans (nl_vw_cg L (fun _ _ => rfl) (fun _ _ => rfl) (fun i hi hk => nl_se_c (i' := i) rfl rfl (fun ho => ?_))).symm
    rw [hE i hi]
    match E i with
    | none => rfl
    | some none => rfl
    | some (some g) =>
      rw [nl_cut]
      by_cases c : bt (ln g) t = true
      · rw [if_pos c]
        show false = bt (ln h) g
        refine (nl_nt fun z => ?_).symm
        rw [nl_tr_trans T h (bw h h1) g t z c] at h2
        exact nomatch h2
      · rw [if_neg c]
theorem nl_mv_t {p : Option Nat} : nl_mv t p (some (some t)) = some p := if_pos rfl
theorem nl_mv_n {p : Option Nat} {e : Option (Option Nat)} (h : ¬ e = some (some t)) : nl_mv t p e = e := if_neg h
theorem nl_mv_s {p : Option Nat} {e : Option (Option Nat)} {h : Nat} : nl_mv t p e = some (some h) ↔ (e = some (some h) ∧ ¬ h = t) ∨ (e = some (some t) ∧ p = some h) := by
  by_cases c : e = some (some t)
  · subst c
    rw [nl_mv_t]
    constructor
    · intro z; exact Or.inr ⟨rfl, Option.some.inj z⟩
    · rintro (⟨z, c⟩ | ⟨_, z⟩)
      · cases z; exact absurd rfl c
      · rw [z]
  · rw [nl_mv_n c]
    constructor
    · intro z
      exact Or.inl ⟨z, fun k => c (by rw [z, k])⟩
    · rintro (⟨z, _⟩ | ⟨z, _⟩)
      · exact z
      · exact absurd z c
theorem nl_OB_c (T : nl_TR b pa ln) (O : nl_OB E kd ob op ln L b0 x r w s v) (HE : ∀ i, i < L → ∀ h, E i = some (some h) → h < b) (ht : t < b)
    (hd : ∀ h, bt w h = true ∨ bt r h = true → bt (ln h) t = true → h = t) {p : Option Nat}
    (hp : (p = none ∧ ∀ a, bt (ln t) a = decide (a = t)) ∨ (∃ j, p = some j ∧ j < t ∧ ∀ a, bt (ln t) a = (decide (a = t) || bt (ln j) a)))
    (hE : ∀ i, i < L → E' i = nl_mv t p (E i))
    (hr : ∀ h, bt r' h = true ↔ (bt r h = true ∧ ¬ h = t) ∨ (bt r t = true ∧ p = some h))
    (hw : ∀ h, bt w' h = true ↔ (bt w h = true ∧ ¬ h = t) ∨ (bt w t = true ∧ p = some h))
    (hs : s' = if bt w t = true ∧ p = none then v t else s)
    (hv : ∀ h, bt w' h = true → v' h = if bt w t = true ∧ p = some h then v t else v h) : nl_OB E' kd ob op ln L b0 x r' w' s' v' := by
  obtain ⟨o1, o2, o3, o4, o5⟩ := O
  have hwt : ∀ i, i < L → (kd i = 1 ∨ kd i = 2) → ob i = x → E i = some (some t) → bt w t = true := fun i hi h1 h2 h3 => (o2 t).mpr ⟨i, hi, h1, h2, h3⟩
  have cw : bt w t = true → ∀ h, bt w h = true ∨ bt r h = true → ¬ h = t → bt (ln t) h = true := fun z h hh hn =>
    (o3 t h z hh).resolve_left (fun k => hn (hd h hh k))
  have cr : ∀ g, bt w g = true → ¬ g = t → (bt w t = true ∨ bt r t = true) → bt (ln t) g = true := fun g hg hn z =>
    (o3 g t hg z).resolve_right (fun k => hn (hd g (Or.inl hg) k))
  refine ⟨fun h => (hr h).trans ?_, fun h => (hw h).trans ?_, ?_, ?_, ?_⟩
  · rw [o1 h, o1 t]
    constructor
    · rintro (⟨⟨i, hi, h1, h2, h3⟩, c⟩ | ⟨⟨i, hi, h1, h2, h3⟩, c⟩)
      · exact ⟨i, hi, h1, h2, by rw [hE i hi]; exact nl_mv_s.mpr (Or.inl ⟨h3, c⟩)⟩
      · exact ⟨i, hi, h1, h2, by rw [hE i hi]; exact nl_mv_s.mpr (Or.inr ⟨h3, c⟩)⟩
    · rintro ⟨i, hi, h1, h2, h3⟩
      rw [hE i hi] at h3
      rcases nl_mv_s.mp h3 with ⟨h4, c⟩ | ⟨h4, c⟩
      · exact Or.inl ⟨⟨i, hi, h1, h2, h4⟩, c⟩
      · exact Or.inr ⟨⟨i, hi, h1, h2, h4⟩, c⟩
  · rw [o2 h, o2 t]
    constructor
    · rintro (⟨⟨i, hi, h1, h2, h3⟩, c⟩ | ⟨⟨i, hi, h1, h2, h3⟩, c⟩)
      · exact ⟨i, hi, h1, h2, by rw [hE i hi]; exact nl_mv_s.mpr (Or.inl ⟨h3, c⟩)⟩
      · exact ⟨i, hi, h1, h2, by rw [hE i hi]; exact nl_mv_s.mpr (Or.inr ⟨h3, c⟩)⟩
    · rintro ⟨i, hi, h1, h2, h3⟩
      rw [hE i hi] at h3
      rcases nl_mv_s.mp h3 with ⟨h4, c⟩ | ⟨h4, c⟩
      · exact Or.inl ⟨⟨i, hi, h1, h2, h4⟩, c⟩
      · exact Or.inr ⟨⟨i, hi, h1, h2, h4⟩, c⟩
  · intro g h hg hh
    have hh2 : ((bt w h = true ∨ bt r h = true) ∧ ¬ h = t) ∨ ((bt w t = true ∨ bt r t = true) ∧ p = some h) := by
      rcases hh with z | z
      · rcases (hw h).mp z with z | z
        · exact Or.inl ⟨Or.inl z.1, z.2⟩
        · exact Or.inr ⟨Or.inl z.1, z.2⟩
      · rcases (hr h).mp z with z | z
        · exact Or.inl ⟨Or.inr z.1, z.2⟩
        · exact Or.inr ⟨Or.inr z.1, z.2⟩
    have hline : ∀ j a, p = some j → bt (ln t) a = true → ¬ a = t → bt (ln j) a = true := by
      intro j a e z hn
      rcases hp with ⟨e2, _⟩ | ⟨k, e2, _, hl⟩
      · rw [e2] at e; exact nomatch e
      · rw [e] at e2; cases e2
        rw [hl, Bool.or_eq_true, decide_eq_true_eq] at z
        exact z.resolve_left hn
    rcases (hw g).mp hg with ⟨g1, g2⟩ | ⟨g1, g2⟩
    · rcases hh2 with ⟨k1, k2⟩ | ⟨k1, k2⟩
      · exact o3 g h g1 k1
      · exact Or.inl (hline h g k2 (cr g g1 g2 k1) g2)
    · rcases hh2 with ⟨k1, k2⟩ | ⟨k1, k2⟩
      · exact Or.inr (hline g h g2 (cw g1 h k1 k2) k2)
      · rw [g2] at k2; cases k2
        rcases hp with ⟨e2, _⟩ | ⟨k, e2, hk, _⟩
        · rw [e2] at g2; exact nomatch g2
        · rw [e2] at g2; cases g2
          exact Or.inl (nl_tr_self T (by omega))
  · rw [hs]
    by_cases c : bt w t = true ∧ p = none
    · rw [if_pos c, o5 t c.1]
      rcases hp with ⟨_, hl⟩ | ⟨j, e2, _, _⟩
      · refine (nl_vw_cg L (fun _ _ => rfl) (fun _ _ => rfl) (fun i hi hk => nl_se_c (i' := i) rfl rfl (fun ho => ?_))).symm
        rw [hE i hi, c.2]
        by_cases k : E i = some (some t)
        · rw [k, nl_mv_t]
          show true = bt (ln t) t
          rw [hl, decide_eq_true rfl]
        · rw [nl_mv_n k]
          match hEi : E i with
          | none => rfl
          | some none => rfl
          | some (some g) =>
            show false = bt (ln t) g
            rw [hl, decide_eq_false]
            intro z; rw [z] at hEi; exact k hEi
      · rw [c.2] at e2; exact nomatch e2
    · rw [if_neg c, o4]
      refine (nl_vw_cg L (fun _ _ => rfl) (fun _ _ => rfl) (fun i hi hk => nl_se_c (i' := i) rfl rfl (fun ho => ?_))).symm
      rw [hE i hi]
      by_cases k : E i = some (some t)
      · have h1 := hwt i hi hk ho k
        rw [k, nl_mv_t]
        match p, c with
        | none, c => exact absurd ⟨h1, rfl⟩ c
        | some j, _ => rfl
      · rw [nl_mv_n k]
  · intro h hh
    rw [hv h hh]
    by_cases c : bt w t = true ∧ p = some h
    · rw [if_pos c, o5 t c.1]
      rcases hp with ⟨e2, _⟩ | ⟨j, e2, hj, hl⟩
      · rw [c.2] at e2; exact nomatch e2
      · rw [c.2] at e2; cases e2
        refine (nl_vw_cg L (fun _ _ => rfl) (fun _ _ => rfl) (fun i hi hk => nl_se_c (i' := i) rfl rfl (fun ho => ?_))).symm
        rw [hE i hi, c.2]
        by_cases k : E i = some (some t)
        · rw [k, nl_mv_t]
          show bt (ln h) h = bt (ln t) t
          rw [nl_tr_self T (by omega), nl_tr_self T ht]
        · rw [nl_mv_n k]
          match hEi : E i with
          | none => rfl
          | some none => rfl
          | some (some g) =>
            show bt (ln h) g = bt (ln t) g
            rw [hl, decide_eq_false, Bool.false_or]
            intro z; rw [z] at hEi; exact k hEi
    · rw [if_neg c]
      have hh1 : bt w h = true ∧ ¬ h = t := ((hw h).mp hh).resolve_right c
      rw [o5 h hh1.1]
      refine (nl_vw_cg L (fun _ _ => rfl) (fun _ _ => rfl) (fun i hi hk => nl_se_c (i' := i) rfl rfl (fun ho => ?_))).symm
      rw [hE i hi]
      by_cases k : E i = some (some t)
      · have h1 := hwt i hi hk ho k
        have h2 := cw h1 h (Or.inl hh1.1) hh1.2
        have h3 : bt (ln h) t = false := nl_nt fun z => hh1.2 (hd h (Or.inl hh1.1) z)
        obtain ⟨i2, hi2, _, _, e2⟩ := (o2 h).mp hh1.1
        have hhb := HE i2 hi2 h e2
        rw [k, nl_mv_t]
        rcases hp with ⟨e2, hl⟩ | ⟨j, e2, hj, hl⟩
        · rw [hl, decide_eq_true_eq] at h2; exact absurd h2 hh1.2
        · rw [e2]
          show bt (ln h) j = bt (ln h) t
          rw [h3]
          refine nl_nt fun z => ?_
          rw [hl, Bool.or_eq_true, decide_eq_true_eq] at h2
          have h4 := nl_tr_le T j (by omega) h (h2.resolve_left hh1.2)
          have h5 := nl_tr_le T h hhb j z
          exact c ⟨h1, by rw [e2, show j = h by omega]⟩
      · rw [nl_mv_n k]
end
end
section
def nl_cl (st : Nat → Int32) : Nat → Nat
  | 0 => 0
  | n + 1 => nl_cl st n + (if nl_lv st n = true then 1 else 0)
def nl_ca (kd : Nat → Int32) : Nat → Nat
  | 0 => 0
  | n + 1 => nl_ca kd n + (if kd n = 3 then 0 else 1)
def nl_lr (ow kd rs : Nat → Int32) (t : Int32) : Nat → Int32
  | 0 => 0
  | n + 1 => if ¬ kd n = 3 ∧ ow n = t then rs n else nl_lr ow kd rs t n
theorem nl_cl_cg {st st' : Nat → Int32} : ∀ n, (∀ s, s < n → nl_lv st' s = nl_lv st s) → nl_cl st' n = nl_cl st n := by
  intro n
  induction n with
  | zero => intro _; rfl
  | succ n ih =>
    intro h
    rw [nl_cl, nl_cl, ih (fun s hs => h s (by omega)), h n (by omega)]
theorem nl_cl_le {st st' : Nat → Int32} : ∀ n, (∀ s, s < n → nl_lv st' s = true → nl_lv st s = true) → nl_cl st' n ≤ nl_cl st n := by
  intro n
  induction n with
  | zero => intro _; exact Nat.le_refl 0
  | succ n ih =>
    intro h
    have h1 := ih (fun s hs => h s (by omega))
    rw [nl_cl, nl_cl]
    by_cases c : nl_lv st' n = true
    · rw [if_pos c, if_pos (h n (by omega) c)]; omega
    · rw [if_neg c]; omega
theorem nl_cl_rm {st st' : Nat → Int32} {t : Nat} (h1 : nl_lv st t = true) (h2 : nl_lv st' t = false) (h : ∀ s, s ≠ t → nl_lv st' s = nl_lv st s) : ∀ n, t < n → nl_cl st' n + 1 = nl_cl st n := by
  intro n
  induction n with
  | zero => intro z; omega
  | succ n ih =>
    intro hn
    rw [nl_cl, nl_cl]
    by_cases c : t = n
    · subst c
      rw [if_pos h1, if_neg (by rw [h2]; decide), nl_cl_cg t (fun s hs => h s (by omega))]
    · rw [h n (fun z => c z.symm)]
      have := ih (by omega)
      omega
theorem nl_cl_pos {st : Nat → Int32} {t : Nat} (h1 : nl_lv st t = true) : ∀ n, t < n → 0 < nl_cl st n := by
  intro n
  induction n with
  | zero => intro z; omega
  | succ n ih =>
    intro hn
    rw [nl_cl]
    by_cases c : t = n
    · subst c; rw [if_pos h1]; omega
    · have := ih (by omega); omega
theorem nl_ca_cg {kd kd' : Nat → Int32} : ∀ n, (∀ s, s < n → kd' s = kd s) → nl_ca kd' n = nl_ca kd n := by
  intro n
  induction n with
  | zero => intro _; rfl
  | succ n ih =>
    intro h
    rw [nl_ca, nl_ca, ih (fun s hs => h s (by omega)), h n (by omega)]
theorem nl_lr_cg {ow kd rs ow' kd' rs' : Nat → Int32} {t : Int32} : ∀ n, (∀ s, s < n → ow' s = ow s) → (∀ s, s < n → kd' s = kd s) → (∀ s, s < n → rs' s = rs s) → nl_lr ow' kd' rs' t n = nl_lr ow kd rs t n := by
  intro n
  induction n with
  | zero => intro _ _ _; rfl
  | succ n ih =>
    intro h1 h2 h3
    rw [nl_lr, nl_lr, ih (fun s hs => h1 s (by omega)) (fun s hs => h2 s (by omega)) (fun s hs => h3 s (by omega)), h1 n (by omega), h2 n (by omega), h3 n (by omega)]
theorem nl_lr_n {ow kd rs : Nat → Int32} {t : Int32} : ∀ n, (∀ s, s < n → ¬ ow s = t) → nl_lr ow kd rs t n = 0 := by
  intro n
  induction n with
  | zero => intro _; rfl
  | succ n ih =>
    intro h
    rw [nl_lr, if_neg (fun z => h n (by omega) z.2), ih (fun s hs => h s (by omega))]
theorem nl_pig : ∀ (m n : Nat) (f : Nat → Nat), (∀ i, i < n → f i < m) → (∀ i j, i < n → j < n → f i = f j → i = j) → n ≤ m := by
  intro m
  induction m with
  | zero =>
    intro n f h _
    rcases Nat.eq_zero_or_pos n with e | e
    · omega
    · have := h 0 e; omega
  | succ m ih =>
    intro n f h hi
    rcases Nat.eq_zero_or_pos n with e | e
    · omega
    · obtain ⟨k, rfl⟩ : ∃ k, n = k + 1 := ⟨n - 1, by omega⟩
      have := ih k (fun i => if f i = m then f k else f i) (by
        intro i hk
        show (if f i = m then f k else f i) < m
        by_cases c : f i = m
        · rw [if_pos c]
          have h1 := h k (by omega)
          have h2 : ¬ f k = m := fun z => by
            have := hi i k (by omega) (by omega) (c.trans z.symm); omega
          omega
        · rw [if_neg c]
          have h1 := h i (by omega)
          omega) (by
        intro i j hik hjk
        show (if f i = m then f k else f i) = (if f j = m then f k else f j) → i = j
        by_cases c : f i = m
        · by_cases d : f j = m
          · intro _; exact hi i j (by omega) (by omega) (c.trans d.symm)
          · rw [if_pos c, if_neg d]; intro z
            have := hi k j (by omega) (by omega) z; omega
        · by_cases d : f j = m
          · rw [if_neg c, if_pos d]; intro z
            have := hi i k (by omega) (by omega) z; omega
          · rw [if_neg c, if_neg d]; intro z
            exact hi i j (by omega) (by omega) z)
      omega
end
section
def nl_E (pa st ow : Nat → Int32) (i : Nat) : Option (Option Nat) := nl_eh pa st (ow i).toNatClampNeg
def nl_SZ (NT NO NA b L ac m : Nat) (kd st : Nat → Int32) : Prop := b ≤ NT ∧ NT ≤ 16 ∧ NO ≤ 8 ∧ NA ≤ 64 ∧ ac = nl_ca kd L ∧ ac + m ≤ NA ∧ L + nl_cl st b ≤ ac + b
def nl_LV (b : Nat) (st : Nat → Int32) (lm : Int32) : Prop := ∀ s, bt lm s = (decide (s < b) && nl_lv st s)
def nl_HI (L : Nat) (hi ow ob kd op rs : Nat → Int32) : Prop := ∀ i, i < L → hi (i * 5 + 0) = ow i ∧ hi (i * 5 + 1) = ob i ∧ hi (i * 5 + 2) = kd i ∧ hi (i * 5 + 3) = op i ∧ hi (i * 5 + 4) = rs i
def nl_EN (b L : Nat) (ow kd : Nat → Int32) : Prop := ∀ i, i < L → (∃ o, o < b ∧ ow i = nI o) ∧ (kd i = 0 ∨ kd i = 1 ∨ kd i = 2 ∨ kd i = 3)
def nl_OBS (NO : Nat) (E : Nat → Option (Option Nat)) (kd ob op ln : Nat → Int32) (L : Nat) (bs se rd wr ve : Nat → Int32) : Prop := ∀ x, x < NO → nl_OB E kd ob op ln L (bs x) (nI x) (rd x) (wr x) (se x) (fun h => ve (x * 16 + h))
def nl_LR (b L : Nat) (lr ow kd rs : Nat → Int32) : Prop := ∀ t, t < b → lr t = nl_lr ow kd rs (nI t) L
def nl_QU (QS : Nat → Prop) (b : Nat) (q st : Nat → Int32) : Prop := (∀ j, QS j → ∃ t, t < b ∧ q j = nI t ∧ st t = 1) ∧ (∀ i j, QS i → QS j → q i = q j → i = j)
def nl_WA (NO b : Nat) (st wo wk : Nat → Int32) : Prop := ∀ t, t < b → st t = 1 → (∃ x, x < NO ∧ wo t = nI x) ∧ (wk t = 0 ∨ wk t = 1 ∨ wk t = 2)
def nl_I (NT NO NA b L ac m : Nat) (QS : Nat → Prop) (lm : Int32) (pa st ln lr wo wk q bs se rd wr ve hi ow ob kd op rs : Nat → Int32) : Prop :=
  nl_SZ NT NO NA b L ac m kd st ∧ nl_TR b pa ln ∧ nl_ST b pa st ∧ nl_LV b st lm ∧ nl_HI L hi ow ob kd op rs ∧ nl_EN b L ow kd ∧ nl_OBS NO (nl_E pa st ow) kd ob op ln L bs se rd wr ve ∧ nl_LR b L lr ow kd rs ∧ nl_QU QS b q st ∧ nl_WA NO b st wo wk
def nl_Rel (u : SX) (v : SY) : Prop := ∃ (NT NO NA b w L ac : Nat) (lm : Int32) (pa st ln lr wo wk wp q bs se rd wr ve hi ow ob kd op rs : Nat → Int32),
  nl_I NT NO NA b L ac w (fun j => j < w) lm pa st ln lr wo wk q bs se rd wr ve hi ow ob kd op rs ∧ u = (nI NT, nI NO, nI NA, nI b, lm, nI w, nI L, nI ac, pa, st, ln, lr, wo, wk, wp, q, bs, se, rd, wr, ve, hi) ∧ v = (nI NT, nI NO, nI NA, nI b, nI w, nI L, bs, pa, st, wo, wk, wp, q, ow, ob, kd, op, rs)
def i_Rel (k : Nat) (u : SX) (v : SY) : Prop := nl_Rel u v
theorem i_up {k : Nat} {u : SX} {v : SY} (h : i_Rel k u v) : i_Rel (k + 5) u v := h
theorem nl_el {P : SX → SY → Prop} (h : ∀ (NT NO NA b w L ac : Nat) (lm : Int32) (pa st ln lr wo wk wp q bs se rd wr ve hi ow ob kd op rs : Nat → Int32), nl_I NT NO NA b L ac w (fun j => j < w) lm pa st ln lr wo wk q bs se rd wr ve hi ow ob kd op rs → P (nI NT, nI NO, nI NA, nI b, lm, nI w, nI L, nI ac, pa, st, ln, lr, wo, wk, wp, q, bs, se, rd, wr, ve, hi) (nI NT, nI NO, nI NA, nI b, nI w, nI L, bs, pa, st, wo, wk, wp, q, ow, ob, kd, op, rs)) {u : SX} {v : SY} (I : nl_Rel u v) : P u v :=
  Exists.elim I fun NT I => Exists.elim I fun NO I => Exists.elim I fun NA I => Exists.elim I fun b I => Exists.elim I fun w I => Exists.elim I fun L I => Exists.elim I fun ac I => Exists.elim I fun lm I =>
  Exists.elim I fun pa I => Exists.elim I fun st I => Exists.elim I fun ln I => Exists.elim I fun lr I => Exists.elim I fun wo I => Exists.elim I fun wk I => Exists.elim I fun wp I => Exists.elim I fun q I => Exists.elim I fun bs I => Exists.elim I fun se I => Exists.elim I fun rd I => Exists.elim I fun wr I => Exists.elim I fun ve I => Exists.elim I fun hi I =>
  Exists.elim I fun ow I => Exists.elim I fun ob I => Exists.elim I fun kd I => Exists.elim I fun op I => Exists.elim I fun rs I =>
  by rw [I.2.1, I.2.2]; exact h NT NO NA b w L ac lm pa st ln lr wo wk wp q bs se rd wr ve hi ow ob kd op rs I.1
theorem nl_in (NT NO NA b w L ac : Nat) (lm : Int32) (pa st ln lr wo wk wp q bs se rd wr ve hi ow ob kd op rs : Nat → Int32) (I : nl_I NT NO NA b L ac w (fun j => j < w) lm pa st ln lr wo wk q bs se rd wr ve hi ow ob kd op rs) : nl_Rel (nI NT, nI NO, nI NA, nI b, lm, nI w, nI L, nI ac, pa, st, ln, lr, wo, wk, wp, q, bs, se, rd, wr, ve, hi) (nI NT, nI NO, nI NA, nI b, nI w, nI L, bs, pa, st, wo, wk, wp, q, ow, ob, kd, op, rs) :=
  ⟨NT, NO, NA, b, w, L, ac, lm, pa, st, ln, lr, wo, wk, wp, q, bs, se, rd, wr, ve, hi, ow, ob, kd, op, rs, I, rfl, rfl⟩
section
variable {NT NO NA b w L ac m : Nat} {QS : Nat → Prop} {lm : Int32} {pa st ln lr wo wk wp q bs se rd wr ve hi ow ob kd op rs : Nat → Int32}
theorem nl_E_cl {o i : Nat} (h : ow i = nI o) (ho : o < 2 ^ 31) : nl_E pa st ow i = nl_eh pa st o := by
  unfold nl_E
  rw [h, nI_clamp ho]
theorem nl_HE (I : nl_I NT NO NA b L ac m QS lm pa st ln lr wo wk q bs se rd wr ve hi ow ob kd op rs) : ∀ i, i < L → ∀ h, nl_E pa st ow i = some (some h) → h < b ∧ nl_lv st h = true := by
  obtain ⟨⟨z1, z2, z3, z4, z5, z6, z7⟩, T, S, LV, HI, EN, OB, LR, QU, WA⟩ := I
  intro i hi h e
  obtain ⟨⟨o, ho, eo⟩, _⟩ := EN i hi
  rw [nl_E_cl eo (by omega)] at e
  obtain ⟨h1, _, h3⟩ := nl_eh_s T (by omega) ho e
  exact ⟨h3, h1⟩
theorem nl_wr_lv (I : nl_I NT NO NA b L ac m QS lm pa st ln lr wo wk q bs se rd wr ve hi ow ob kd op rs) {x h : Nat} (hx : x < NO) (e : bt (wr x) h = true) : h < b ∧ nl_lv st h = true := by
  have HE := nl_HE I
  obtain ⟨⟨z1, z2, z3, z4, z5, z6, z7⟩, T, S, LV, HI, EN, OB, LR, QU, WA⟩ := I
  obtain ⟨i, hi, _, _, e⟩ := ((OB x hx).2.1 h).mp e
  exact HE i hi h e
theorem nl_rd_lv (I : nl_I NT NO NA b L ac m QS lm pa st ln lr wo wk q bs se rd wr ve hi ow ob kd op rs) {x h : Nat} (hx : x < NO) (e : bt (rd x) h = true) : h < b ∧ nl_lv st h = true := by
  have HE := nl_HE I
  obtain ⟨⟨z1, z2, z3, z4, z5, z6, z7⟩, T, S, LV, HI, EN, OB, LR, QU, WA⟩ := I
  obtain ⟨i, hi, _, _, e⟩ := ((OB x hx).1 h).mp e
  exact HE i hi h e
end
end
section
theorem nl_OB_v {E : Nat → Option (Option Nat)} {kd ob op ln v v' : Nat → Int32} {L : Nat} {b0 x r w s : Int32} (O : nl_OB E kd ob op ln L b0 x r w s v) (h : ∀ g, bt w g = true → v' g = v g) : nl_OB E kd ob op ln L b0 x r w s v' :=
  ⟨O.1, O.2.1, O.2.2.1, O.2.2.2.1, fun g hg => (h g hg).trans (O.2.2.2.2 g hg)⟩
section
variable {NT NO NA b w L ac m : Nat} {QS : Nat → Prop} {lm : Int32} {pa st ln lr wo wk wp q bs se rd wr ve hi ow ob kd op rs : Nat → Int32}
theorem nl_E_cg (T : nl_TR b pa ln) (hb : b ≤ 16) (EN : nl_EN b L ow kd) {pa' st' ow' : Nat → Int32} (hp : ∀ s, s < b → pa' s = pa s) (hl : ∀ s, s < b → nl_lv st' s = nl_lv st s) (h3 : ∀ s, s < b → (st' s = 3 ↔ st s = 3)) (ho : ∀ i, i < L → ow' i = ow i) : ∀ i, i < L → nl_E pa' st' ow' i = nl_E pa st ow i := by
  intro i hi
  obtain ⟨⟨o, h1, h2⟩, _⟩ := EN i hi
  rw [nl_E_cl h2 (by omega), nl_E_cl ((ho i hi).trans h2) (by omega)]
  exact nl_eh_cg T hb hp hl h3 h1
theorem nl_begin (I : nl_I NT NO NA b L ac m QS lm pa st ln lr wo wk q bs se rd wr ve hi ow ob kd op rs) (hb : b < NT) (pv lo : Int32) (hp : (pv = -1 ∧ lo = 0) ∨ ∃ p, p < b ∧ pv = nI p ∧ st p = 0 ∧ lo = ln p) : nl_I NT NO NA (b+1) L ac m QS (lm ||| ((1 : Int32) <<< (nI b &&& 31))) (upd pa b pv) (upd st b 0) (upd ln b (lo ||| ((1 : Int32) <<< (nI b &&& 31)))) (upd lr b 0) wo wk q bs se rd wr ve hi ow ob kd op rs := by
  have HE := nl_HE I
  obtain ⟨⟨z1, z2, z3, z4, z5, z6, z7⟩, T, S, LV, HI, EN, OB, LR, QU, WA⟩ := I
  have lt : ∀ s, s < b → s ≠ b := fun s h => by omega
  have l0 : nl_lv (upd st b 0) b = true := nl_lv_i.mpr (Or.inl pk_us)
  have hl : ∀ s, s < b → nl_lv (upd st b 0) s = nl_lv st s := fun s h => nl_lv_un (lt s h)
  have h3 : ∀ s, s < b → (upd st b 0 s = 3 ↔ st s = 3) := fun s h => by rw [pk_un (lt s h)]
  have hE := nl_E_cg T (by omega) EN (pa' := upd pa b pv) (st' := upd st b 0) (ow' := ow) (fun s h => pk_un (lt s h)) hl h3 (fun _ _ => rfl)
  refine ⟨⟨by omega, z2, z3, z4, z5, z6, ?_⟩, ?_, ⟨?_, ?_⟩, ?_, HI, ?_, ?_, ?_, ⟨?_, QU.2⟩, ?_⟩
  · rw [nl_cl, if_pos l0, nl_cl_cg b hl]; omega
  · intro t ht
    by_cases c : t = b
    · subst c
      rcases hp with ⟨e1, e2⟩ | ⟨p, h1, e1, _, e2⟩
      · refine Or.inl ⟨pk_us.trans e1, fun a => ?_⟩
        rw [pk_us, e2, b_or, b_0, nl_sh (by omega), Bool.false_or]
      · refine Or.inr ⟨p, h1, pk_us.trans e1, fun a => ?_⟩
        rw [pk_us, e2, b_or, nl_sh (by omega), pk_un (lt p h1), Bool.or_comm]
    · have h1 : t < b := by omega
      rcases T t h1 with ⟨e1, e2⟩ | ⟨j, hj, e1, e2⟩
      · exact Or.inl ⟨(pk_un c).trans e1, fun a => by rw [pk_un c]; exact e2 a⟩
      · exact Or.inr ⟨j, hj, (pk_un c).trans e1, fun a => by rw [pk_un c, pk_un (lt j (by omega))]; exact e2 a⟩
  · intro t ht
    by_cases c : t = b
    · rw [c, pk_us]; exact Or.inl rfl
    · rw [pk_un c]; exact S.1 t (by omega)
  · intro t j ht hj e
    have hjb : j < b := by omega
    rw [hl j hjb, pk_un (lt j hjb)]
    by_cases c : t = b
    · subst c
      rw [pk_us] at e
      rcases hp with ⟨e1, _⟩ | ⟨p, h1, e1, e2, _⟩
      · exact absurd (e.symm.trans e1) (nl_ne1 (by omega))
      · have : j = p := (nI_eq (by omega) (by omega)).mp (e.symm.trans e1)
        subst this
        exact ⟨fun _ => nl_lv_i.mpr (Or.inl e2), fun z => absurd (e2.symm.trans z) (by decide)⟩
    · rw [pk_un c] at e
      rw [pk_un c, hl t (by omega)]
      exact S.2 t j (by omega) hj e
  · intro s
    rw [b_or, nl_sh (by omega), LV s]
    by_cases c : s = b
    · subst c
      rw [decide_eq_true rfl, Bool.or_true, l0, decide_eq_true (by omega)]; rfl
    · rw [decide_eq_false c, Bool.or_false, nl_lv_un c]
      by_cases d : s < b
      · rw [decide_eq_true d, decide_eq_true (by omega)]
      · rw [decide_eq_false d, decide_eq_false (by omega)]
  · intro i hi
    obtain ⟨⟨o, h1, h2⟩, h⟩ := EN i hi
    exact ⟨⟨o, by omega, h2⟩, h⟩
  · intro x hx
    exact nl_OB_ag (OB x hx) (fun i hi h e => (HE i hi h e).1) hE (kd' := kd) (ob' := ob) (op' := op) (ln' := upd ln b (lo ||| ((1 : Int32) <<< (nI b &&& 31)))) (fun _ _ => rfl) (fun _ _ => rfl) (fun _ _ => rfl) (fun a ha => pk_un (lt a ha))
  · intro t ht
    by_cases c : t = b
    · subst c
      rw [pk_us, nl_lr_n L]
      intro s hs z
      obtain ⟨⟨o, h1, h2⟩, _⟩ := EN s hs
      have := (nI_eq (by omega) (by omega)).mp (h2.symm.trans z)
      omega
    · rw [pk_un c]; exact LR t (by omega)
  · intro j hj
    obtain ⟨t, h1, h2, h4⟩ := QU.1 j hj
    exact ⟨t, by omega, h2, (pk_un (lt t h1)).trans h4⟩
  · intro t ht e
    by_cases c : t = b
    · subst c; rw [pk_us] at e; exact absurd e (by decide)
    · rw [pk_un c] at e
      exact WA t (by omega) e
theorem nl_HI_app (HI : nl_HI L hi ow ob kd op rs) {a1 a2 a3 a4 a5 : Int32} : nl_HI (L + 1) (upd (upd (upd (upd (upd hi (L * 5 + 0) a1) (L * 5 + 1) a2) (L * 5 + 2) a3) (L * 5 + 3) a4) (L * 5 + 4) a5) (upd ow L a1) (upd ob L a2) (upd kd L a3) (upd op L a4) (upd rs L a5) := by
  intro i hL
  by_cases c : i = L
  · subst c
    refine ⟨?_, ?_, ?_, ?_, ?_⟩
    · rw [pk_un (by omega), pk_un (by omega), pk_un (by omega), pk_un (by omega), pk_us, pk_us]
    · rw [pk_un (by omega), pk_un (by omega), pk_un (by omega), pk_us, pk_us]
    · rw [pk_un (by omega), pk_un (by omega), pk_us, pk_us]
    · rw [pk_un (by omega), pk_us, pk_us]
    · rw [pk_us, pk_us]
  · have K : ∀ k, k < 5 → upd (upd (upd (upd (upd hi (L * 5 + 0) a1) (L * 5 + 1) a2) (L * 5 + 2) a3) (L * 5 + 3) a4) (L * 5 + 4) a5 (i * 5 + k) = hi (i * 5 + k) := by
      intro k hk
      rw [pk_un (by omega), pk_un (by omega), pk_un (by omega), pk_un (by omega), pk_un (by omega)]
    rw [K 0 (by omega), K 1 (by omega), K 2 (by omega), K 3 (by omega), K 4 (by omega), pk_un c, pk_un c, pk_un c, pk_un c, pk_un c]
    exact HI i (by omega)
theorem nl_lv_g {t : Nat} {y : Int32} (hy : y = 0 ∨ y = 1) (hl : nl_lv st t = true) (s : Nat) : nl_lv (upd st t y) s = nl_lv st s := by
  by_cases c : s = t
  · subst c; rw [hl]; exact nl_lv_i.mpr (by rw [pk_us]; exact hy)
  · exact nl_lv_un c
theorem nl_st_g {t : Nat} {y : Int32} (hy : y = 0 ∨ y = 1) (hl : nl_lv st t = true) (s : Nat) : upd st t y s = 3 ↔ st s = 3 := by
  by_cases c : s = t
  · subst c; rw [pk_us]
    refine ⟨fun z => ?_, fun z => absurd z (nl_lv_3 hl)⟩
    rcases hy with e | e <;> rw [e] at z <;> exact absurd z (by decide)
  · rw [pk_un c]
theorem nl_E_g (T : nl_TR b pa ln) (hb : b ≤ 16) (EN : nl_EN b L ow kd) {t : Nat} {y z : Int32} (hy : y = 0 ∨ y = 1) (hl : nl_lv st t = true) : ∀ i, i < L → nl_E pa (upd st t y) (upd ow L z) i = nl_E pa st ow i :=
  nl_E_cg T hb EN (fun _ _ => rfl) (fun s _ => nl_lv_g hy hl s) (fun s _ => nl_st_g hy hl s) (fun i hi => pk_un (by omega))
theorem nl_E_L {t : Nat} (ht : t < 2 ^ 31) : nl_E pa (upd st t 0) (upd ow L (nI t)) L = some (some t) := by
  rw [nl_E_cl (o := t) pk_us ht]
  exact nl_eh_l (nl_lv_i.mpr (Or.inl pk_us))
theorem nl_g_rd (I : nl_I NT NO NA b L ac m QS lm pa st ln lr wo wk q bs se rd wr ve hi ow ob kd op rs) {t x : Nat} (ht : t < b) (hx : x < NO) (hl : nl_lv st t = true) (o : Int32) (hm : ∀ h, bt (wr x) h = true → bt (ln t) h = true) : nl_OBS NO (nl_E pa (upd st t 0) (upd ow L (nI t))) (upd kd L 0) (upd ob L (nI x)) (upd op L o) ln (L + 1) bs se (upd rd x (rd x ||| ((1 : Int32) <<< (nI t &&& 31)))) wr ve := by
  have HE := nl_HE I
  obtain ⟨⟨z1, z2, z3, z4, z5, z6, z7⟩, T, S, LV, HI, EN, OB, LR, QU, WA⟩ := I
  have lt : ∀ s, s < L → s ≠ L := fun s h => by omega
  intro y hy
  have O := nl_OB_ag (OB y hy) (fun i hi h e => (HE i hi h e).1) (nl_E_g T (by omega) EN (Or.inl rfl) hl (z := nI t)) (kd' := upd kd L 0) (ob' := upd ob L (nI x)) (op' := upd op L o) (ln' := ln) (fun i hi => pk_un (lt i hi)) (fun i hi => pk_un (lt i hi)) (fun i hi => pk_un (lt i hi)) (fun _ _ => rfl)
  by_cases c : y = x
  · subst c
    refine nl_OB_r O pk_us pk_us (nl_E_L (by omega)) hm (fun h => ?_)
    rw [pk_us, b_or, nl_sh (by omega)]
  · rw [pk_un c]
    refine nl_OB_o O (Or.inr ?_)
    rw [pk_us, nI_eq (by omega) (by omega)]
    exact fun z => c z.symm
theorem nl_g_wr (I : nl_I NT NO NA b L ac m QS lm pa st ln lr wo wk q bs se rd wr ve hi ow ob kd op rs) {t x : Nat} (ht : t < b) (hx : x < NO) (hl : nl_lv st t = true) (k o nv : Int32) (hk : k = 1 ∨ k = 2) (hm : ∀ h, bt (wr x) h = true ∨ bt (rd x) h = true → bt (ln t) h = true) (hn : nv = nl_s1 k o (nl_V (nl_E pa st ow) kd ob op ln L (bs x) (nI x) (some t))) : nl_OBS NO (nl_E pa (upd st t 0) (upd ow L (nI t))) (upd kd L k) (upd ob L (nI x)) (upd op L o) ln (L + 1) bs se rd (upd wr x (wr x ||| ((1 : Int32) <<< (nI t &&& 31)))) (upd ve (x * 16 + t) nv) := by
  have HE := nl_HE I
  have WL := fun (y h : Nat) (hy : y < NO) => nl_wr_lv I hy (h := h)
  obtain ⟨⟨z1, z2, z3, z4, z5, z6, z7⟩, T, S, LV, HI, EN, OB, LR, QU, WA⟩ := I
  have lt : ∀ s, s < L → s ≠ L := fun s h => by omega
  have hE := nl_E_g T (by omega) EN (Or.inl rfl) hl (z := nI t)
  intro y hy
  have O := nl_OB_ag (OB y hy) (fun i hi h e => (HE i hi h e).1) hE (kd' := upd kd L k) (ob' := upd ob L (nI x)) (op' := upd op L o) (ln' := ln) (fun i hi => pk_un (lt i hi)) (fun i hi => pk_un (lt i hi)) (fun i hi => pk_un (lt i hi)) (fun _ _ => rfl)
  by_cases c : y = x
  · subst c
    refine nl_OB_w T O (fun i hi h e => (HE i hi h ((hE i hi).symm.trans e)).1) ht (by rw [pk_us]; exact hk) pk_us (nl_E_L (by omega)) hm (fun h => ?_) (fun h => ?_)
    · rw [pk_us, b_or, nl_sh (by omega)]
    · show upd ve (y * 16 + t) nv (y * 16 + h) = _
      by_cases d : h = t
      · rw [if_pos d, d, pk_us, pk_us, pk_us, hn]
        exact congrArg (nl_s1 k o) (Eq.symm (nl_V_ag hE (kd' := upd kd L k) (ob' := upd ob L (nI y)) (op' := upd op L o) (ln' := ln) (fun i hi => pk_un (lt i hi)) (fun i hi => pk_un (lt i hi)) (fun i hi => pk_un (lt i hi)) (fun _ _ => rfl)))
      · rw [if_neg d, pk_un (by omega)]
  · rw [pk_un c]
    refine nl_OB_o (nl_OB_v O (fun g hg => ?_)) (Or.inr ?_)
    · have := (WL y g hy hg).1
      exact pk_un (by omega)
    · rw [pk_us, nI_eq (by omega) (by omega)]
      exact fun z => c z.symm
theorem nl_grant (I : nl_I NT NO NA b L ac m QS lm pa st ln lr wo wk q bs se rd wr ve hi ow ob kd op rs) {t x m' : Nat} {QS' : Nat → Prop} (ht : t < b) (hl : nl_lv st t = true) (k o sv : Int32) (hk : k = 0 ∨ k = 1 ∨ k = 2) (hq : ∀ j, QS' j → QS j ∧ ¬ q j = nI t) (hm : ac + 1 + m' ≤ NA) {rd' wr' ve' : Nat → Int32}
    (HO : nl_OBS NO (nl_E pa (upd st t 0) (upd ow L (nI t))) (upd kd L k) (upd ob L (nI x)) (upd op L o) ln (L + 1) bs se rd' wr' ve') : nl_I NT NO NA b (L+1) (ac+1) m' QS' lm pa (upd st t 0) ln (upd lr t sv) wo wk q bs se rd' wr' ve' (upd (upd (upd (upd (upd hi (L * 5 + 0) (nI t)) (L * 5 + 1) (nI x)) (L * 5 + 2) k) (L * 5 + 3) o) (L * 5 + 4) sv) (upd ow L (nI t)) (upd ob L (nI x)) (upd kd L k) (upd op L o) (upd rs L sv) := by
  obtain ⟨⟨z1, z2, z3, z4, z5, z6, z7⟩, T, S, LV, HI, EN, OB, LR, QU, WA⟩ := I
  have lt : ∀ s, s < L → s ≠ L := fun s h => by omega
  have k3 : ¬ k = 3 := fun z => by rw [z] at hk; exact absurd hk (by decide)
  have hl' := fun s => nl_lv_g (y := 0) (Or.inl rfl) hl s
  have h3 := fun s => nl_st_g (y := 0) (Or.inl rfl) hl s
  refine ⟨⟨z1, z2, z3, z4, ?_, hm, ?_⟩, T, ⟨?_, ?_⟩, ?_, nl_HI_app HI, ?_, HO, ?_, ⟨?_, ?_⟩, ?_⟩
  · rw [nl_ca, pk_us, if_neg k3, nl_ca_cg (kd := kd) (kd' := upd kd L k) L (fun s hs => pk_un (lt s hs)), z5]
  · rw [nl_cl_cg b (fun s _ => hl' s)]; omega
  · intro s hs
    by_cases c : s = t
    · rw [c, pk_us]; exact Or.inl rfl
    · rw [pk_un c]; exact S.1 s hs
  · intro s j hs hj e
    rw [hl' s, hl' j, h3 s, h3 j]
    exact S.2 s j hs hj e
  · intro s
    rw [hl' s]; exact LV s
  · intro i hL
    by_cases c : i = L
    · subst c
      rw [pk_us, pk_us]
      exact ⟨⟨t, ht, rfl⟩, by rcases hk with e | e | e <;> simp [e]⟩
    · rw [pk_un c, pk_un c]; exact EN i (by omega)
  · intro s hs
    rw [nl_lr, pk_us, pk_us, pk_us]
    by_cases c : s = t
    · rw [c, pk_us, if_pos ⟨k3, rfl⟩]
    · rw [pk_un c, if_neg (fun z => c ((nI_eq (by omega) (by omega)).mp z.2).symm), nl_lr_cg (ow := ow) (ow' := upd ow L (nI t)) (kd := kd) (kd' := upd kd L k) (rs := rs) (rs' := upd rs L sv) L (fun s hs => pk_un (lt s hs)) (fun s hs => pk_un (lt s hs)) (fun s hs => pk_un (lt s hs))]
      exact LR s hs
  · intro j hj
    obtain ⟨h1, h2⟩ := hq j hj
    obtain ⟨s, e1, e2, e3⟩ := QU.1 j h1
    exact ⟨s, e1, e2, (pk_un (fun z => h2 (by rw [e2, z]))).trans e3⟩
  · intro i j h1 h2 e
    exact QU.2 i j (hq i h1).1 (hq j h2).1 e
  · intro s hs e
    by_cases c : s = t
    · rw [c, pk_us] at e; exact absurd e (by decide)
    · rw [pk_un c] at e; exact WA s hs e
theorem nl_enq (I : nl_I NT NO NA b L ac w (fun j => j < w) lm pa st ln lr wo wk q bs se rd wr ve hi ow ob kd op rs) {t x : Nat} (ht : t < b) (hx : x < NO) (hs : st t = 0) (k : Int32) (hk : k = 0 ∨ k = 1 ∨ k = 2) (hm : ac + w < NA) : nl_I NT NO NA b L ac (w + 1) (fun j => j < w + 1) lm pa (upd st t 1) ln lr (upd wo t (nI x)) (upd wk t k) (upd q w (nI t)) bs se rd wr ve hi ow ob kd op rs := by
  have HE := nl_HE I
  obtain ⟨⟨z1, z2, z3, z4, z5, z6, z7⟩, T, S, LV, HI, EN, OB, LR, QU, WA⟩ := I
  have hl : nl_lv st t = true := nl_lv_i.mpr (Or.inl hs)
  have hl' := fun s => nl_lv_g (y := 1) (Or.inr rfl) hl s
  have h3 := fun s => nl_st_g (y := 1) (Or.inr rfl) hl s
  have hE := nl_E_cg T (by omega) EN (pa' := pa) (st' := upd st t 1) (ow' := ow) (fun _ _ => rfl) (fun s _ => hl' s) (fun s _ => h3 s) (fun _ _ => rfl)
  have qt : ∀ j, j < w → ¬ q j = nI t := fun j hj z => by
    obtain ⟨s, e1, e2, e3⟩ := QU.1 j hj
    have := (nI_eq (by omega) (by omega)).mp (e2.symm.trans z)
    rw [this, hs] at e3; exact absurd e3 (by decide)
  refine ⟨⟨z1, z2, z3, z4, z5, by omega, ?_⟩, T, ⟨?_, ?_⟩, ?_, HI, EN, ?_, LR, ⟨?_, ?_⟩, ?_⟩
  · rw [nl_cl_cg b (fun s _ => hl' s)]; omega
  · intro s hs
    by_cases c : s = t
    · rw [c, pk_us]; exact Or.inr (Or.inl rfl)
    · rw [pk_un c]; exact S.1 s hs
  · intro s j hs hj e
    rw [hl' s, hl' j, h3 s, h3 j]
    exact S.2 s j hs hj e
  · intro s
    rw [hl' s]; exact LV s
  · intro y hy
    exact nl_OB_ag (OB y hy) (fun i hi h e => (HE i hi h e).1) hE (kd' := kd) (ob' := ob) (op' := op) (ln' := ln) (fun _ _ => rfl) (fun _ _ => rfl) (fun _ _ => rfl) (fun _ _ => rfl)
  · intro j hj
    have hj : j < w + 1 := hj
    by_cases c : j = w
    · rw [c, pk_us]; exact ⟨t, ht, rfl, pk_us⟩
    · obtain ⟨s, e1, e2, e3⟩ := QU.1 j (show j < w by omega)
      refine ⟨s, e1, (pk_un c).trans e2, (pk_un (fun z => ?_)).trans e3⟩
      rw [z, hs] at e3; exact absurd e3 (by decide)
  · intro i j h1 h2 e
    have h1 : i < w + 1 := h1
    have h2 : j < w + 1 := h2
    by_cases c : i = w
    · by_cases d : j = w
      · omega
      · rw [c, pk_us, pk_un d] at e
        exact absurd e.symm (qt j (by omega))
    · by_cases d : j = w
      · rw [d, pk_us, pk_un c] at e
        exact absurd e (qt i (by omega))
      · rw [pk_un c, pk_un d] at e
        exact QU.2 i j (show i < w by omega) (show j < w by omega) e
  · intro s hs2 e
    by_cases c : s = t
    · rw [c, pk_us, pk_us]; exact ⟨⟨x, hx, rfl⟩, hk⟩
    · rw [pk_un c] at e
      rw [pk_un c, pk_un c]; exact WA s hs2 e
end
end
section
def nl_ab (st : Nat → Int32) (mk : Int32) (n : Nat) : Nat → Int32 := fun s => if s < n ∧ bt mk s = true then 3 else st s
def nl_dl (rd : Nat → Int32) (mk : Int32) (n : Nat) : Nat → Int32 := fun x => if x < n then rd x &&& (mk ^^^ (-1)) else rd x
def nl_ar (bs se : Nat → Int32) (n : Nat) : Nat → Int32 := fun x => if x < n then se x else bs x
section
variable {NT NO NA b w L ac m : Nat} {QS : Nat → Prop} {lm : Int32} {pa st ln lr wo wk wp q bs se rd wr ve hi ow ob kd op rs : Nat → Int32}
theorem nl_commit (I : nl_I NT NO NA b L ac m QS lm pa st ln lr wo wk q bs se rd wr ve hi ow ob kd op rs) {t : Nat} (ht : t < b) (hst : st t = 0) (hc : ∀ s, s < b → nl_lv st s = true → bt (ln s) t = true → s = t) {rd' wr' se' ve' : Nat → Int32} (HO : nl_OBS NO (nl_E pa (upd st t 2) ow) kd ob op ln L bs se' rd' wr' ve') : nl_I NT NO NA b (L+1) ac m QS (lm &&& (((1 : Int32) <<< (nI t &&& 31)) ^^^ (-1))) pa (upd st t 2) ln lr wo wk q bs se' rd' wr' ve' (upd (upd (upd (upd (upd hi (L * 5 + 0) (nI t)) (L * 5 + 1) (-1)) (L * 5 + 2) 3) (L * 5 + 3) 0) (L * 5 + 4) 0) (upd ow L (nI t)) (upd ob L (-1)) (upd kd L 3) (upd op L 0) (upd rs L 0) := by
  have hl : nl_lv st t = true := nl_lv_i.mpr (Or.inl hst)
  have HE := nl_HE I
  obtain ⟨⟨z1, z2, z3, z4, z5, z6, z7⟩, T, S, LV, HI, EN, OB, LR, QU, WA⟩ := I
  have lt : ∀ s, s < L → s ≠ L := fun s h => by omega
  have hE : ∀ i, i < L → nl_E pa (upd st t 2) (upd ow L (nI t)) i = nl_E pa (upd st t 2) ow i := fun i hi => by
    unfold nl_E
    rw [pk_un (lt i hi)]
  have HE2 : ∀ i, i < L → ∀ h, nl_E pa (upd st t 2) ow i = some (some h) → h < b := fun i hi h e => by
    obtain ⟨⟨o, h1, h2⟩, _⟩ := EN i hi
    rw [nl_E_cl h2 (by omega)] at e
    exact (nl_eh_s T (by omega) h1 e).2.2
  refine ⟨⟨z1, z2, z3, z4, ?_, z6, ?_⟩, T, ⟨?_, ?_⟩, ?_, nl_HI_app HI, ?_, ?_, ?_, ⟨?_, QU.2⟩, ?_⟩
  · rw [nl_ca, pk_us, if_pos rfl, nl_ca_cg (kd := kd) (kd' := upd kd L 3) L (fun s hs => pk_un (lt s hs)), z5, Nat.add_zero]
  · have := nl_cl_rm hl nl_lv_u2 (fun s hs => nl_lv_un hs) b ht
    omega
  · intro s hs
    by_cases c : s = t
    · rw [c, pk_us]; exact Or.inr (Or.inr (Or.inl rfl))
    · rw [pk_un c]; exact S.1 s hs
  · intro s j hs hj e
    by_cases c : s = t
    · subst c
      rw [nl_lv_u2]
      refine ⟨fun z => (nomatch z), fun z => ?_⟩
      rw [pk_un (by omega)] at z
      exact absurd ((S.2 s j hs hj e).2 z) (nl_lv_3 hl)
    · rw [nl_lv_un c, pk_un c]
      by_cases d : j = t
      · subst d
        rw [pk_us]
        refine ⟨fun z => ?_, fun z => absurd z (by decide)⟩
        have h1 : bt (ln s) j = true := by
          rcases T s hs with ⟨e1, _⟩ | ⟨k, hk, e1, h1⟩
          · exact absurd (e.symm.trans e1) (nl_ne1 (by omega))
          · have : j = k := (nI_eq (by omega) (by omega)).mp (e.symm.trans e1)
            subst this
            rw [h1, nl_tr_self T ht, Bool.or_true]
        exact absurd (hc s hs z h1) c
      · rw [nl_lv_un d, pk_un d]
        exact S.2 s j hs hj e
  · intro s
    rw [nl_an, nl_sh (by omega), LV s]
    by_cases c : s = t
    · rw [c, nl_lv_u2, decide_eq_true rfl, Bool.not_true, Bool.and_false, Bool.and_false]
    · rw [nl_lv_un c, decide_eq_false c, Bool.not_false, Bool.and_true]
  · intro i hL
    by_cases c : i = L
    · subst c
      rw [pk_us, pk_us]
      exact ⟨⟨t, ht, rfl⟩, Or.inr (Or.inr (Or.inr rfl))⟩
    · rw [pk_un c, pk_un c]; exact EN i (by omega)
  · intro y hy
    have O := nl_OB_ag (HO y hy) HE2 hE (kd' := upd kd L 3) (ob' := upd ob L (-1)) (op' := upd op L 0) (ln' := ln) (fun i hi => pk_un (lt i hi)) (fun i hi => pk_un (lt i hi)) (fun i hi => pk_un (lt i hi)) (fun _ _ => rfl)
    exact nl_OB_o O (Or.inl pk_us)
  · intro s hs
    rw [nl_lr, if_neg (fun z => z.1 pk_us), nl_lr_cg (ow := ow) (ow' := upd ow L (nI t)) (kd := kd) (kd' := upd kd L 3) (rs := rs) (rs' := upd rs L 0) L (fun s hs => pk_un (lt s hs)) (fun s hs => pk_un (lt s hs)) (fun s hs => pk_un (lt s hs))]
    exact LR s hs
  · intro j hj
    obtain ⟨s, e1, e2, e3⟩ := QU.1 j hj
    refine ⟨s, e1, e2, (pk_un (fun z => ?_)).trans e3⟩
    rw [z, hst] at e3; exact absurd e3 (by decide)
  · intro s hs e
    by_cases c : s = t
    · rw [c, pk_us] at e; exact absurd e (by decide)
    · rw [pk_un c] at e; exact WA s hs e
theorem nl_ab_t {st : Nat → Int32} {mk : Int32} {n s : Nat} (h : s < n) (h2 : bt mk s = true) : nl_ab st mk n s = 3 := if_pos ⟨h, h2⟩
theorem nl_ab_f {st : Nat → Int32} {mk : Int32} {n s : Nat} (h2 : bt mk s = false) : nl_ab st mk n s = st s := if_neg (fun z => by rw [h2] at z; exact nomatch z.2)
theorem nl_abort (I : nl_I NT NO NA b L ac m QS lm pa st ln lr wo wk q bs se rd wr ve hi ow ob kd op rs) {t m' : Nat} {QS' : Nat → Prop} {q' : Nat → Int32} {mk : Int32} (hl : nl_lv st t = true) (hk : ∀ a, bt mk a = (decide (a < b) && bt (ln a) t)) (hm : m' ≤ m) (hQ : nl_QU QS' b q' (nl_ab st mk b)) : nl_I NT NO NA b L ac m' QS' (lm &&& (mk ^^^ (-1))) pa (nl_ab st mk b) ln lr wo wk q' bs se (nl_dl rd mk NO) (nl_dl wr mk NO) ve hi ow ob kd op rs := by
  have HE := nl_HE I
  obtain ⟨⟨z1, z2, z3, z4, z5, z6, z7⟩, T, S, LV, HI, EN, OB, LR, QU, WA⟩ := I
  have e1 : ∀ s, s < b → bt (ln s) t = true → nl_ab st mk b s = 3 := fun s hs c => nl_ab_t hs (by rw [hk, c, decide_eq_true hs]; rfl)
  have e2 : ∀ s, bt (ln s) t = false → nl_ab st mk b s = st s := fun s c => nl_ab_f (by rw [hk, c, Bool.and_false])
  have l1 : ∀ s, s < b → bt (ln s) t = true → nl_lv (nl_ab st mk b) s = false := fun s hs c => by
    unfold nl_lv; rw [e1 s hs c]; decide
  have l2 : ∀ s, bt (ln s) t = false → nl_lv (nl_ab st mk b) s = nl_lv st s := fun s c => by
    unfold nl_lv; rw [e2 s c]
  have hE : ∀ i, i < L → nl_E pa (nl_ab st mk b) ow i = nl_cut ln t (nl_E pa st ow i) := fun i hi => by
    obtain ⟨⟨o, h1, h2⟩, _⟩ := EN i hi
    rw [nl_E_cl h2 (by omega), nl_E_cl h2 (by omega)]
    exact nl_eh_ab T (by omega) hl e1 (fun s _ c => e2 s c) h1
  refine ⟨⟨z1, z2, z3, z4, z5, by omega, ?_⟩, T, ⟨?_, ?_⟩, ?_, HI, EN, ?_, LR, hQ, ?_⟩
  · have := nl_cl_le (st := st) (st' := nl_ab st mk b) b (fun s hs z => by
      cases c : bt (ln s) t
      · rw [l2 s c] at z; exact z
      · rw [l1 s hs c] at z; exact nomatch z)
    omega
  · intro s hs
    cases c : bt (ln s) t
    · rw [e2 s c]; exact S.1 s hs
    · rw [e1 s hs c]; exact Or.inr (Or.inr (Or.inr rfl))
  · intro s j hs hj e
    have hln : bt (ln s) t = (decide (t = s) || bt (ln j) t) := by
      rcases T s hs with ⟨k1, _⟩ | ⟨k, hk, k1, h1⟩
      · exact absurd (e.symm.trans k1) (nl_ne1 (by omega))
      · have : j = k := (nI_eq (by omega) (by omega)).mp (e.symm.trans k1)
        subst this
        exact h1 t
    cases c : bt (ln s) t
    · rw [c] at hln
      have d := (Bool.or_eq_false_iff.mp hln.symm).2
      rw [l2 s c, l2 j d, e2 s c, e2 j d]
      exact S.2 s j hs hj e
    · rw [l1 s hs c, e1 s hs c]
      exact ⟨fun z => (nomatch z), fun _ => rfl⟩
  · intro s
    rw [nl_an, LV s, hk]
    by_cases d : s < b
    · cases c : bt (ln s) t
      · rw [l2 s c, Bool.and_false, Bool.not_false, Bool.and_true]
      · rw [l1 s d c, decide_eq_true d, Bool.and_true, Bool.not_true, Bool.and_false, Bool.and_false]
    · rw [decide_eq_false d, Bool.false_and, Bool.false_and, Bool.false_and]
  · intro y hy
    have a1 : nl_dl rd mk NO y = rd y &&& (mk ^^^ (-1)) := if_pos hy
    have a2 : nl_dl wr mk NO y = wr y &&& (mk ^^^ (-1)) := if_pos hy
    rw [a1, a2]
    exact nl_OB_x T (OB y hy) (fun i hi h e => (HE i hi h e).1) hE hk
  · intro s hs e
    cases c : bt (ln s) t
    · rw [e2 s c] at e; exact WA s hs e
    · rw [e1 s hs c] at e; exact absurd e (by decide)
theorem nl_archive (I : nl_I NT NO NA b L ac m QS lm pa st ln lr wo wk q bs se rd wr ve hi ow ob kd op rs) (h0 : lm = 0) {m' : Nat} {QS' : Nat → Prop} {bs' : Nat → Int32} (hm : m' ≤ NA) (hQ : ∀ j, ¬ QS' j) (hb : ∀ x, x < NO → bs' x = se x) : nl_I NT NO NA 0 0 0 m' QS' lm pa st ln lr wo wk q bs' se rd wr ve hi ow ob kd op rs := by
  have WL := fun (y h : Nat) (hy : y < NO) => nl_wr_lv I hy (h := h)
  have RL := fun (y h : Nat) (hy : y < NO) => nl_rd_lv I hy (h := h)
  obtain ⟨⟨z1, z2, z3, z4, z5, z6, z7⟩, T, S, LV, HI, EN, OB, LR, QU, WA⟩ := I
  have no : ∀ h, h < b → nl_lv st h = true → False := fun h hb hl => by
    have k := LV h
    rw [h0, b_0, decide_eq_true hb, hl] at k
    exact nomatch k
  refine ⟨⟨Nat.zero_le _, z2, z3, z4, rfl, by omega, Nat.le_refl 0⟩, ?_, ⟨?_, ?_⟩, ?_, ?_, ?_, ?_, ?_, ⟨?_, ?_⟩, ?_⟩
  · intro t ht; exact absurd ht (Nat.not_lt_zero _)
  · intro t ht; exact absurd ht (Nat.not_lt_zero _)
  · intro t j ht; exact absurd ht (Nat.not_lt_zero _)
  · intro s; rw [h0, b_0, decide_eq_false (Nat.not_lt_zero _), Bool.false_and]
  · intro i ht; exact absurd ht (Nat.not_lt_zero _)
  · intro i ht; exact absurd ht (Nat.not_lt_zero _)
  · intro y hy
    refine ⟨fun h => ⟨fun z => ?_, ?_⟩, fun h => ⟨fun z => ?_, ?_⟩, fun g h hg => ?_, ?_, fun h hh => ?_⟩
    · exact (no h (RL y h hy z).1 (RL y h hy z).2).elim
    · rintro ⟨i, hi, _⟩; exact absurd hi (Nat.not_lt_zero _)
    · exact (no h (WL y h hy z).1 (WL y h hy z).2).elim
    · rintro ⟨i, hi, _⟩; exact absurd hi (Nat.not_lt_zero _)
    · exact (no g (WL y g hy hg).1 (WL y g hy hg).2).elim
    · rw [hb y hy]; rfl
    · exact (no h (WL y h hy hh).1 (WL y h hy hh).2).elim
  · intro t ht; exact absurd ht (Nat.not_lt_zero _)
  · intro j hj; exact absurd hj (hQ j)
  · intro i j hj; exact absurd hj (hQ i)
  · intro t ht; exact absurd ht (Nat.not_lt_zero _)
end
end
section
section
variable {NT NO NA b w L ac : Nat} {lm : Int32} {pa st ln lr wo wk wp q bs se rd wr ve hi : Nat → Int32} {post : Int32 → Prop}
theorem nl_Xk1 {t : Nat} (ht : t < b) (hb : b ≤ 16) (h : post 1) : wpX_known post (nI NT, nI NO, nI NA, nI b, lm, nI w, nI L, nI ac, pa, st, ln, lr, wo, wk, wp, q, bs, se, rd, wr, ve, hi) (nI t) :=
  br_f (nI_pos (by omega)) (br_f (nI_ge ht (by omega)) h)
theorem nl_Xk0 {p : Int32} (hp : p < 0 ∨ nI b ≤ p) (h : post 0) : wpX_known post (nI NT, nI NO, nI NA, nI b, lm, nI w, nI L, nI ac, pa, st, ln, lr, wo, wk, wp, q, bs, se, rd, wr, ve, hi) p := by
  by_cases h0 : p < 0
  · exact br_t h0 h
  · exact br_f h0 (br_t (hp.resolve_left h0) h)
theorem nl_Xo1 {x : Nat} (hx : x < NO) (hb : NO ≤ 8) (h : post 1) : wpX_isObject post (nI NT, nI NO, nI NA, nI b, lm, nI w, nI L, nI ac, pa, st, ln, lr, wo, wk, wp, q, bs, se, rd, wr, ve, hi) (nI x) :=
  br_f (nI_pos (by omega)) (br_f (nI_ge hx (by omega)) h)
theorem nl_Xo0 {p : Int32} (hp : p < 0 ∨ nI NO ≤ p) (h : post 0) : wpX_isObject post (nI NT, nI NO, nI NA, nI b, lm, nI w, nI L, nI ac, pa, st, ln, lr, wo, wk, wp, q, bs, se, rd, wr, ve, hi) p := by
  by_cases h0 : p < 0
  · exact br_t h0 h
  · exact br_f h0 (br_t (hp.resolve_left h0) h)
theorem nl_Xl {t : Nat} (ht : t < b) (hb : b ≤ 16) (LV : nl_LV b st lm) (h1 : nl_lv st t = true → post 1) (h0 : nl_lv st t = false → post 0) : wpX_isLive post (nI NT, nI NO, nI NA, nI b, lm, nI w, nI L, nI ac, pa, st, ln, lr, wo, wk, wp, q, bs, se, rd, wr, ve, hi) (nI t) := by
  unfold wpX_isLive
  refine nl_Xk1 ht hb (br_f (by decide) ?_)
  have k := LV t
  rw [decide_eq_true ht, Bool.true_and] at k
  refine br_c (fun z => h0 ?_) (fun z => h1 ?_)
  · rw [← k]; exact (nl_bz (by omega)).mp z
  · rw [← k]; exact (nl_bnz (by omega)).mp z
theorem nl_Xl0 {p : Int32} (hp : p < 0 ∨ nI b ≤ p) (h : post 0) : wpX_isLive post (nI NT, nI NO, nI NA, nI b, lm, nI w, nI L, nI ac, pa, st, ln, lr, wo, wk, wp, q, bs, se, rd, wr, ve, hi) p := by
  unfold wpX_isLive
  exact nl_Xk0 hp (br_t rfl h)
theorem nl_Xw {t : Nat} (ht : t < b) (hb : b ≤ 16) (h1 : st t = 1 → post 1) (h0 : ¬ st t = 1 → post 0) : wpX_isWaiting post (nI NT, nI NO, nI NA, nI b, lm, nI w, nI L, nI ac, pa, st, ln, lr, wo, wk, wp, q, bs, se, rd, wr, ve, hi) (nI t) := by
  unfold wpX_isWaiting
  refine nl_Xk1 ht hb (br_f (by decide) ⟨vp_in_nI (by omega) (by omega), ?_⟩)
  rw [nI_clamp (by omega)]
  exact ⟨h1, h0⟩
theorem nl_Xw0 {p : Int32} (hp : p < 0 ∨ nI b ≤ p) (h : post 0) : wpX_isWaiting post (nI NT, nI NO, nI NA, nI b, lm, nI w, nI L, nI ac, pa, st, ln, lr, wo, wk, wp, q, bs, se, rd, wr, ve, hi) p := by
  unfold wpX_isWaiting
  exact nl_Xk0 hp (br_t rfl h)
theorem nl_Xlo_n (h : post 0) : wpX_lineOf post (nI NT, nI NO, nI NA, nI b, lm, nI w, nI L, nI ac, pa, st, ln, lr, wo, wk, wp, q, bs, se, rd, wr, ve, hi) (-1) := br_t rfl h
theorem nl_Xlo_t {t : Nat} (ht : t < 16) (h : post (ln t)) : wpX_lineOf post (nI NT, nI NO, nI NA, nI b, lm, nI w, nI L, nI ac, pa, st, ln, lr, wo, wk, wp, q, bs, se, rd, wr, ve, hi) (nI t) :=
  br_f (nl_ne1 (by omega)) ⟨vp_in_nI ht (by omega), by rw [nI_clamp (by omega)]; exact h⟩
theorem nl_Xhi_l {mk : Int32} (h1 : ∀ h, h < 16 → bt mk h = true → (∀ g, h < g → g < 16 → bt mk g = false) → post (nI h)) (h0 : (∀ g, g < 16 → bt mk g = false) → post (-1)) : ∀ k, k ≤ 16 → (∀ g, k ≤ g → g < 16 → bt mk g = false) → ∀ e, e = nI k + (-1) → wX_highest_3 post mk (nI NT) (nI NO) (nI NA) (nI b) lm (nI w) (nI L) (nI ac) pa st ln lr wo wk wp q bs se rd wr ve hi (k + 1) e := by
  intro k
  induction k with
  | zero =>
    intro _ hf e ee
    subst ee
    exact br_t (by decide) (h0 (fun g hg => hf g (Nat.zero_le g) hg))
  | succ k ih =>
    intro hk hf e ee
    rw [pk_m1] at ee
    subst ee
    refine br_f (nI_pos (by omega)) (br_c (fun z => ?_) (fun z => ?_))
    · have z1 := (nl_bz (by omega)).mp z
      refine ih (by omega) (fun g hg hg2 => ?_)
      by_cases c : g = k
      · rw [c]; exact z1
      · exact hf g (by omega) hg2
    · exact h1 k (by omega) ((nl_bnz (by omega)).mp z) (fun g hg hg2 => hf g (by omega) hg2)
theorem nl_Xhi {mk : Int32} (h1 : ∀ h, h < 16 → bt mk h = true → (∀ g, h < g → g < 16 → bt mk g = false) → post (nI h)) (h0 : (∀ g, g < 16 → bt mk g = false) → post (-1)) : wpX_highest post (nI NT, nI NO, nI NA, nI b, lm, nI w, nI L, nI ac, pa, st, ln, lr, wo, wk, wp, q, bs, se, rd, wr, ve, hi) mk :=
  ⟨17, nl_Xhi_l h1 h0 16 (by omega) (fun g h2 h3 => by omega) 15 (by decide)⟩
theorem nl_Xlw_l {mk : Int32} (h1 : ∀ h, h < 16 → bt mk h = true → (∀ g, g < h → bt mk g = false) → post (nI h)) (h0 : (∀ g, g < 16 → bt mk g = false) → post (-1)) : ∀ d k, k + d = 16 → (∀ g, g < k → bt mk g = false) → wX_lowest_2 post mk (nI NT) (nI NO) (nI NA) (nI b) lm (nI w) (nI L) (nI ac) pa st ln lr wo wk wp q bs se rd wr ve hi (d + 1) (nI k) := by
  intro d
  induction d with
  | zero =>
    intro k hk hf
    exact br_t (nI_le (a := 16) (b := k) (by omega) (by omega)) (h0 (fun g hg => hf g (by omega)))
  | succ d ih =>
    intro k hk hf
    refine br_f (nI_ge (a := k) (b := 16) (by omega) (by omega)) (br_c (fun z => nm_r (nI_1 k) (ih (k + 1) (by omega) (fun g hg => ?_))) (fun z => ?_))
    · by_cases c : g = k
      · rw [c]; exact (nl_bz (by omega)).mp z
      · exact hf g (by omega)
    · exact h1 k (by omega) ((nl_bnz (by omega)).mp z) hf
theorem nl_Xlw {mk : Int32} (h1 : ∀ h, h < 16 → bt mk h = true → (∀ g, g < h → bt mk g = false) → post (nI h)) (h0 : (∀ g, g < 16 → bt mk g = false) → post (-1)) : wpX_lowest post (nI NT, nI NO, nI NA, nI b, lm, nI w, nI L, nI ac, pa, st, ln, lr, wo, wk, wp, q, bs, se, rd, wr, ve, hi) mk :=
  ⟨17, nl_Xlw_l h1 h0 16 0 (by omega) (fun g h2 => by omega)⟩
theorem nl_Xst_l {t : Nat} (hb : b ≤ 16) (ht : t < b) (h : ∀ mk, (∀ a, bt mk a = (decide (t ≤ a ∧ a < b) && bt (ln a) t)) → post mk) : ∀ d s mk, s + d = b → t ≤ s → (∀ a, bt mk a = (decide (t ≤ a ∧ a < s) && bt (ln a) t)) → wX_subtree_4 post (nI t) (nI NT) (nI NO) (nI NA) (nI b) lm (nI w) (nI L) (nI ac) pa st ln lr wo wk wp q bs se rd wr ve hi (d + 1) mk (nI s) := by
  intro d
  induction d with
  | zero =>
    intro s mk hs hts hm
    have e : s = b := by omega
    subst e
    exact br_t (nI_le (by omega) (by omega)) (h mk hm)
  | succ d ih =>
    intro s mk hs hts hm
    refine br_f (nI_ge (by omega) (by omega)) ⟨vp_in_nI (by omega) (by omega), ?_⟩
    rw [nI_clamp (by omega)]
    refine br_c (fun z => nm_r (nI_1 s) (ih (s + 1) mk (by omega) (by omega) (fun a => ?_))) (fun z => nm_e (nm_r (nI_1 s) (ih (s + 1) _ (by omega) (by omega) (fun a => ?_))))
    · rw [hm a]
      by_cases c : a = s
      · rw [c, (nl_bz (by omega)).mp z, Bool.and_false, Bool.and_false]
      · rw [show decide (t ≤ a ∧ a < s + 1) = decide (t ≤ a ∧ a < s) from decide_eq_decide.mpr (by omega)]
    · rw [b_or, nl_sh (by omega), hm a]
      by_cases c : a = s
      · rw [c, (nl_bnz (by omega)).mp z, decide_eq_true rfl, Bool.or_true, decide_eq_true (by omega)]; rfl
      · rw [decide_eq_false c, Bool.or_false, show decide (t ≤ a ∧ a < s + 1) = decide (t ≤ a ∧ a < s) from decide_eq_decide.mpr (by omega)]
theorem nl_Xst {t : Nat} (hb : b ≤ 16) (ht : t < b) (T : nl_TR b pa ln) (h : ∀ mk, (∀ a, bt mk a = (decide (a < b) && bt (ln a) t)) → post mk) : wpX_subtree post (nI NT, nI NO, nI NA, nI b, lm, nI w, nI L, nI ac, pa, st, ln, lr, wo, wk, wp, q, bs, se, rd, wr, ve, hi) (nI t) := by
  refine ⟨b - t + 1, nl_Xst_l hb ht (fun mk hm => h mk (fun a => (hm a).trans ?_)) (b - t) t 0 (by omega) (Nat.le_refl t) (fun a => ?_)⟩
  · by_cases c : a < b
    · by_cases d : t ≤ a
      · rw [decide_eq_true ⟨d, c⟩, decide_eq_true c]
      · have z : bt (ln a) t = false := nl_nt (fun z => d (nl_tr_le T a c t z))
        rw [z, Bool.and_false, Bool.and_false]
    · rw [decide_eq_false c, decide_eq_false (fun z => c z.2)]
  · rw [b_0, decide_eq_false (by omega), Bool.false_and]
theorem nl_Xlc {t : Nat} (hb : b ≤ 16) (ht : t < b) (T : nl_TR b pa ln) (LV : nl_LV b st lm) (h1 : (∃ s, s < b ∧ ¬ s = t ∧ bt (ln s) t = true ∧ nl_lv st s = true) → post 1) (h0 : (∀ s, s < b → nl_lv st s = true → bt (ln s) t = true → s = t) → post 0) : wpX_hasLiveChild post (nI NT, nI NO, nI NA, nI b, lm, nI w, nI L, nI ac, pa, st, ln, lr, wo, wk, wp, q, bs, se, rd, wr, ve, hi) (nI t) := by
  unfold wpX_hasLiveChild
  refine nl_Xst hb ht T (fun mk hm => ?_)
  intro y ey
  have bits : ∀ a, bt (y &&& lm) a = (((decide (a < b) && bt (ln a) t) && !decide (a = t)) && (decide (a < b) && nl_lv st a)) := fun a => by
    rw [ey, b_and, nl_an, nl_sh (by omega), hm, LV]
  refine br_c (fun z => h0 ?_) (fun z => h1 ?_)
  · intro s hs hl hls
    have k := bits s
    rw [z, b_0, hl, hls, decide_eq_true hs] at k
    by_cases c : s = t
    · exact c
    · rw [decide_eq_false c] at k; exact nomatch k
  · have : ∃ s, bt (y &&& lm) s = true := Classical.byContradiction (fun c => z (nl_m0.mpr (fun i => nl_nt (fun k => c ⟨i, k⟩))))
    obtain ⟨s, hs⟩ := this
    rw [bits, Bool.and_eq_true, Bool.and_eq_true, Bool.and_eq_true, Bool.and_eq_true, decide_eq_true_eq, Bool.not_eq_true', decide_eq_false_iff_not] at hs
    exact ⟨s, hs.1.1.1, hs.1.2, hs.1.1.2, hs.2.2⟩
def nl_BK (r w l k mk : Int32) : Prop := ∀ a, bt mk a = ((bt w a || (decide (¬ k = 0) && bt r a)) && !bt l a)
theorem nl_Xbk {t x : Nat} {k : Int32} (ht : t < 16) (hx : x < 8) (h : ∀ mk, nl_BK (rd x) (wr x) (ln t) k mk → post mk) : wpX_blockers post (nI NT, nI NO, nI NA, nI b, lm, nI w, nI L, nI ac, pa, st, ln, lr, wo, wk, wp, q, bs, se, rd, wr, ve, hi) (nI t) (nI x) k := by
  refine ⟨vp_in_nI hx (by omega), fun y ey => br_c (fun k0 => ?_) (fun k0 => ⟨vp_in_nI hx (by omega), fun z ez => ?_⟩)⟩
  · rw [nI_clamp (by omega)] at ey
    unfold wX_blockers_23
    rw [nI_clamp (by omega)]
    refine ⟨vp_in_nI ht (by omega), h _ (fun a => ?_)⟩
    rw [nl_an, ey, decide_eq_false (fun z => z k0), Bool.false_and, Bool.or_false]
  · rw [nI_clamp (by omega)] at ey ez
    unfold wX_blockers_23
    rw [nI_clamp (by omega)]
    refine ⟨vp_in_nI ht (by omega), h _ (fun a => ?_)⟩
    rw [nl_an, ez, ey, b_or, decide_eq_true k0, Bool.true_and]
def nl_en : Option Nat → Int32
  | none => -1
  | some t => nI t
theorem nl_Xvis {E : Nat → Option (Option Nat)} {kd ob op : Nat → Int32} {t : Option Nat} {x : Nat} (ht : ∀ a, t = some a → a < b) (hb : b ≤ 16) (hx : x < 8) (T : nl_TR b pa ln) (O : nl_OB E kd ob op ln L (bs x) (nI x) (rd x) (wr x) (se x) (fun h => ve (x * 16 + h))) (HW : ∀ h, bt (wr x) h = true → h < b) (h : post (nl_V E kd ob op ln L (bs x) (nI x) t)) : wpX_visible post (nI NT, nI NO, nI NA, nI b, lm, nI w, nI L, nI ac, pa, st, ln, lr, wo, wk, wp, q, bs, se, rd, wr, ve, hi) (nl_en t) (nI x) := by
  refine ⟨vp_in_nI hx (by omega), ?_⟩
  rw [nI_clamp (by omega)]
  match t, ht, h with
  | none, _, h =>
    refine nl_Xlo_n (fun y ey => nl_Xhi (fun g _ hg _ => ?_) (fun _ => ?_))
    · rw [ey, b_and, b_0, Bool.and_false] at hg; exact nomatch hg
    · refine br_t rfl ⟨vp_in_nI hx (by omega), ?_⟩
      rw [← O.2.2.2.1] at h; exact h
  | some t, ht, h =>
    have ht := ht t rfl
    refine nl_Xlo_t (by omega) (fun y ey => nl_Xhi (fun g hg1 hg hg2 => ?_) (fun hn => ?_))
    · rw [ey, b_and, Bool.and_eq_true] at hg
      have hw := O.2.2.2.2 g hg.1
      rw [nl_V_t T O ht hg.2 (fun a ha1 ha2 => ?_), ← hw] at h
      · have e : nI x * 16 + nI g = nI (x * 16 + g) := by
          rw [← nI_add]; exact congrArg (· + nI g) (pk_mul x 16)
        rw [e]
        refine br_f (nl_ne1 (by omega)) ⟨vp_in_nI (by omega) (by omega), ?_⟩
        rw [nI_clamp (by omega)]
        exact h
      · rcases Nat.lt_or_ge g a with c | c
        · have k := hg2 a c (by have := HW a ha1; omega)
          rw [ey, b_and, ha1, ha2] at k; exact nomatch k
        · exact c
    · refine br_t rfl ⟨vp_in_nI hx (by omega), ?_⟩
      rw [nl_V_n O (fun a ha => ?_), ← O.2.2.2.1] at h
      · exact h
      · have k := hn a (by have := HW a ha; omega)
        rw [ey, b_and, ha, Bool.true_and] at k; exact k
end
end
section
section
variable {NT NO NA b w L ac : Nat} {lm : Int32} {pa st ln lr wo wk wp q bs se rd wr ve hi : Nat → Int32} {post : SX → Prop}
theorem nl_Xap {p0 p1 p2 p3 p4 : Int32} (hL : L < 80) (h : post (nI NT, nI NO, nI NA, nI b, lm, nI w, nI (L + 1), nI ac, pa, st, ln, lr, wo, wk, wp, q, bs, se, rd, wr, ve, upd (upd (upd (upd (upd hi (L * 5 + 0) p0) (L * 5 + 1) p1) (L * 5 + 2) p2) (L * 5 + 3) p3) (L * 5 + 4) p4)) : wpX_append post (nI NT, nI NO, nI NA, nI b, lm, nI w, nI L, nI ac, pa, st, ln, lr, wo, wk, wp, q, bs, se, rd, wr, ve, hi) p0 p1 p2 p3 p4 := by
  unfold wpX_append
  intro x6 e6
  have e7 : x6 = nI (L * 5) := e6.trans (pk_mul L 5)
  subst e7
  have ix : ∀ c, c < 5 → vp_in (nI (L * 5) + nI c) 400 ∧ (nI (L * 5) + nI c).toNatClampNeg = L * 5 + c := fun c hc => by
    rw [nI_add]
    exact ⟨vp_in_nI (by omega) (by omega), nI_clamp (by omega)⟩
  have i0 := ix 0 (by omega)
  have i1 := ix 1 (by omega)
  have i2 := ix 2 (by omega)
  have i3 := ix 3 (by omega)
  have i4 := ix 4 (by omega)
  refine ⟨i0.1, nm_r (congrArg (fun z => upd hi z p0) i0.2) ⟨i1.1, nm_r (congrArg (fun z => upd _ z p1) i1.2) ⟨i2.1, nm_r (congrArg (fun z => upd _ z p2) i2.2) ⟨i3.1, nm_r (congrArg (fun z => upd _ z p3) i3.2) ⟨i4.1, nm_r (congrArg (fun z => upd _ z p4) i4.2) (nm_r (nI_1 L) h)⟩⟩⟩⟩⟩
theorem nl_Xg65 {t : Nat} {p1 p2 p3 sv : Int32} (ht : t < 16) (hL : L < 80) (h : post (nI NT, nI NO, nI NA, nI b, lm, nI w, nI (L + 1), nI (ac + 1), pa, upd st t 0, ln, upd lr t sv, wo, wk, wp, q, bs, se, rd, wr, ve, upd (upd (upd (upd (upd hi (L * 5 + 0) (nI t)) (L * 5 + 1) p1) (L * 5 + 2) p2) (L * 5 + 3) p3) (L * 5 + 4) sv)) : wX_grant_65 post (nI t) p1 p2 p3 sv (nI NT) (nI NO) (nI NA) (nI b) lm (nI w) (nI L) (nI ac) pa st ln lr wo wk wp q bs se rd wr ve hi := by
  unfold wX_grant_65
  refine nl_Xap hL ?_
  exact nm_r (nI_1 ac) ⟨vp_in_nI ht (by omega), nm_r (congrArg (fun z => upd lr z sv) (nI_clamp (by omega))) ⟨vp_in_nI ht (by omega), nm_r (congrArg (fun z => upd st z 0) (nI_clamp (by omega))) h⟩⟩
theorem nl_Xg_r {t x : Nat} {o sv : Int32} (ht : t < 16) (hx : x < 8) (hL : L < 80) (hv : ∀ pq : Int32 → Prop, pq sv → wpX_visible pq (nI NT, nI NO, nI NA, nI b, lm, nI w, nI L, nI ac, pa, st, ln, lr, wo, wk, wp, q, bs, se, rd, wr, ve, hi) (nI t) (nI x)) (h : post (nI NT, nI NO, nI NA, nI b, lm, nI w, nI (L + 1), nI (ac + 1), pa, upd st t 0, ln, upd lr t sv, wo, wk, wp, q, bs, se, upd rd x (rd x ||| ((1 : Int32) <<< (nI t &&& 31))), wr, ve, upd (upd (upd (upd (upd hi (L * 5 + 0) (nI t)) (L * 5 + 1) (nI x)) (L * 5 + 2) 0) (L * 5 + 3) o) (L * 5 + 4) sv)) : wpX_grant post (nI NT, nI NO, nI NA, nI b, lm, nI w, nI L, nI ac, pa, st, ln, lr, wo, wk, wp, q, bs, se, rd, wr, ve, hi) (nI t) (nI x) 0 o := by
  unfold wpX_grant
  refine hv _ (br_t rfl ⟨vp_in_nI hx (by omega), vp_in_nI hx (by omega), ?_⟩)
  rw [nI_clamp (by omega)]
  exact nm_e (nl_Xg65 ht hL h)
theorem nl_Xg_w {t x : Nat} {k o sv : Int32} (ht : t < 16) (hx : x < 8) (hL : L < 80) (hk : k = 1 ∨ k = 2) (hv : ∀ pq : Int32 → Prop, pq sv → wpX_visible pq (nI NT, nI NO, nI NA, nI b, lm, nI w, nI L, nI ac, pa, st, ln, lr, wo, wk, wp, q, bs, se, rd, wr, ve, hi) (nI t) (nI x)) (h : post (nI NT, nI NO, nI NA, nI b, lm, nI w, nI (L + 1), nI (ac + 1), pa, upd st t 0, ln, upd lr t sv, wo, wk, wp, q, bs, se, rd, upd wr x (wr x ||| ((1 : Int32) <<< (nI t &&& 31))), upd ve (x * 16 + t) (nl_s1 k o sv), upd (upd (upd (upd (upd hi (L * 5 + 0) (nI t)) (L * 5 + 1) (nI x)) (L * 5 + 2) k) (L * 5 + 3) o) (L * 5 + 4) sv)) : wpX_grant post (nI NT, nI NO, nI NA, nI b, lm, nI w, nI L, nI ac, pa, st, ln, lr, wo, wk, wp, q, bs, se, rd, wr, ve, hi) (nI t) (nI x) k o := by
  unfold wpX_grant
  have e : nI x * 16 + nI t = nI (x * 16 + t) := by
    rw [← nI_add]; exact congrArg (· + nI t) (pk_mul x 16)
  have k0 : ¬ k = 0 := fun z => by rw [z] at hk; exact absurd hk (by decide)
  refine hv _ (br_f k0 ⟨vp_in_nI hx (by omega), vp_in_nI hx (by omega), ?_⟩)
  rw [nI_clamp (show x < 2 ^ 31 by omega)]
  refine nm_e (br_c (fun k2 => ?_) (fun k2 => ?_))
  · unfold wX_grant_64
    rw [e, nI_clamp (by omega)]
    refine ⟨vp_in_nI (by omega) (by omega), nm_e (nl_Xg65 ht hL ?_)⟩
    rw [k2, nl_s1_2] at h
    rw [k2]; exact h
  · unfold wX_grant_64
    rw [e, nI_clamp (by omega)]
    refine ⟨vp_in_nI (by omega) (by omega), nm_e (nl_Xg65 ht hL ?_)⟩
    have k1 : k = 1 := hk.resolve_right k2
    rw [k1, nl_s1_1] at h
    rw [k1]; exact h
theorem nl_Xeq {t : Nat} {x k o : Int32} (ht : t < 16) (hw : w < 16) (h : post (nI NT, nI NO, nI NA, nI b, lm, nI (w + 1), nI L, nI ac, pa, upd st t 1, ln, lr, upd wo t x, upd wk t k, upd wp t o, upd q w (nI t), bs, se, rd, wr, ve, hi)) : wpX_enqueue post (nI NT, nI NO, nI NA, nI b, lm, nI w, nI L, nI ac, pa, st, ln, lr, wo, wk, wp, q, bs, se, rd, wr, ve, hi) (nI t) x k o := by
  unfold wpX_enqueue
  have e : (nI t).toNatClampNeg = t := nI_clamp (by omega)
  have e2 : (nI w).toNatClampNeg = w := nI_clamp (by omega)
  have v : vp_in (nI t) 16 := vp_in_nI ht (by omega)
  exact ⟨v, nm_r (congrArg (fun z => upd wo z x) e) ⟨v, nm_r (congrArg (fun z => upd wk z k) e) ⟨v, nm_r (congrArg (fun z => upd wp z o) e) ⟨v, nm_r (congrArg (fun z => upd st z 1) e) ⟨vp_in_nI hw (by omega), nm_r (congrArg (fun z => upd q z (nI t)) e2) (nm_r (nI_1 w) h)⟩⟩⟩⟩⟩
theorem nl_ab_s0 {mk : Int32} {n : Nat} (h : bt mk n = false) : nl_ab st mk (n + 1) = nl_ab st mk n := by
  funext s
  unfold nl_ab
  by_cases c : s = n
  · rw [c, h, if_neg (fun z => nomatch z.2), if_neg (fun z => nomatch z.2)]
  · by_cases d : s < n ∧ bt mk s = true
    · rw [if_pos d, if_pos ⟨by omega, d.2⟩]
    · rw [if_neg d, if_neg (fun z => d ⟨by omega, z.2⟩)]
theorem nl_ab_s1 {mk : Int32} {n : Nat} (h : bt mk n = true) : nl_ab st mk (n + 1) = upd (nl_ab st mk n) n 3 := by
  funext s
  by_cases c : s = n
  · rw [c, pk_us]; exact if_pos ⟨by omega, h⟩
  · rw [pk_un c]
    unfold nl_ab
    by_cases d : s < n ∧ bt mk s = true
    · rw [if_pos d, if_pos ⟨by omega, d.2⟩]
    · rw [if_neg d, if_neg (fun z => d ⟨by omega, z.2⟩)]
theorem nl_ab_0 {mk : Int32} : nl_ab st mk 0 = st := by
  funext s
  exact if_neg (fun z => Nat.not_lt_zero _ z.1)
theorem nl_Xma_l {mk : Int32} (hb : b ≤ 16) (h : post (nI NT, nI NO, nI NA, nI b, lm &&& (mk ^^^ (-1)), nI w, nI L, nI ac, pa, nl_ab st mk b, ln, lr, wo, wk, wp, q, bs, se, rd, wr, ve, hi)) : ∀ d u, u + d = b → wX_markAborted_2 post mk (nI NT) (nI NO) (nI NA) (nI b) lm (nI w) (nI L) (nI ac) (d + 1) (nI u) pa (nl_ab st mk u) ln lr wo wk wp q bs se rd wr ve hi := by
  intro d
  induction d with
  | zero =>
    intro u hu
    have e : u = b := by omega
    subst e
    exact br_t (nI_le (by omega) (by omega)) (nm_e h)
  | succ d ih =>
    intro u hu
    have k := ih (u + 1) (by omega)
    refine br_f (nI_ge (by omega) (by omega)) (br_c (fun z => nm_r (nI_1 u) ?_) (fun z => ⟨vp_in_nI (by omega) (by omega), ?_⟩))
    · rw [nl_ab_s0 ((nl_bz (by omega)).mp z)] at k; exact k
    · rw [nl_ab_s1 ((nl_bnz (by omega)).mp z)] at k
      rw [nI_clamp (by omega)]
      exact nm_e (nm_r (nI_1 u) k)
theorem nl_Xma {mk : Int32} (hb : b ≤ 16) (h : post (nI NT, nI NO, nI NA, nI b, lm &&& (mk ^^^ (-1)), nI w, nI L, nI ac, pa, nl_ab st mk b, ln, lr, wo, wk, wp, q, bs, se, rd, wr, ve, hi)) : wpX_markAborted post (nI NT, nI NO, nI NA, nI b, lm, nI w, nI L, nI ac, pa, st, ln, lr, wo, wk, wp, q, bs, se, rd, wr, ve, hi) mk := by
  have k := nl_Xma_l hb h b 0 (by omega)
  rw [nl_ab_0] at k
  exact ⟨b + 1, k⟩
theorem nl_dl_s {a : Nat → Int32} {mk : Int32} {n : Nat} : nl_dl a mk (n + 1) = upd (nl_dl a mk n) n (nl_dl a mk n n &&& (mk ^^^ (-1))) := by
  funext s
  have e : nl_dl a mk n n = a n := if_neg (by omega)
  rw [e]
  by_cases c : s = n
  · rw [c, pk_us]; exact if_pos (by omega)
  · rw [pk_un c]
    unfold nl_dl
    by_cases d : s < n
    · rw [if_pos d, if_pos (by omega)]
    · rw [if_neg d, if_neg (by omega)]
theorem nl_dl_0 {a : Nat → Int32} {mk : Int32} : nl_dl a mk 0 = a := by
  funext s
  exact if_neg (Nat.not_lt_zero _)
theorem nl_Xdl_l {mk : Int32} (hb : NO ≤ 8) (h : post (nI NT, nI NO, nI NA, nI b, lm, nI w, nI L, nI ac, pa, st, ln, lr, wo, wk, wp, q, bs, se, nl_dl rd mk NO, nl_dl wr mk NO, ve, hi)) : ∀ d x, x + d = NO → wX_dropLocks_2 post mk (nI NT) (nI NO) (nI NA) (nI b) lm (nI w) (nI L) (nI ac) (d + 1) (nI x) pa st ln lr wo wk wp q bs se (nl_dl rd mk x) (nl_dl wr mk x) ve hi := by
  intro d
  induction d with
  | zero =>
    intro x hu
    have e : x = NO := by omega
    subst e
    exact br_t (nI_le (by omega) (by omega)) h
  | succ d ih =>
    intro x hu
    have k := ih (x + 1) (by omega)
    rw [nl_dl_s, nl_dl_s] at k
    have v : vp_in (nI x) 8 := vp_in_nI (by omega) (by omega)
    refine br_f (nI_ge (by omega) (by omega)) ⟨v, v, ?_⟩
    rw [nI_clamp (by omega)]
    exact nm_e ⟨v, v, nm_e (nm_r (nI_1 x) k)⟩
theorem nl_Xdl {mk : Int32} (hb : NO ≤ 8) (h : post (nI NT, nI NO, nI NA, nI b, lm, nI w, nI L, nI ac, pa, st, ln, lr, wo, wk, wp, q, bs, se, nl_dl rd mk NO, nl_dl wr mk NO, ve, hi)) : wpX_dropLocks post (nI NT, nI NO, nI NA, nI b, lm, nI w, nI L, nI ac, pa, st, ln, lr, wo, wk, wp, q, bs, se, rd, wr, ve, hi) mk := by
  have k := nl_Xdl_l hb h NO 0 (by omega)
  rw [nl_dl_0, nl_dl_0] at k
  exact ⟨NO + 1, k⟩
theorem nl_ar_s {n : Nat} : nl_ar bs se (n + 1) = upd (nl_ar bs se n) n (se n) := by
  funext s
  by_cases c : s = n
  · rw [c, pk_us]; exact if_pos (by omega)
  · rw [pk_un c]
    unfold nl_ar
    by_cases d : s < n
    · rw [if_pos d, if_pos (by omega)]
    · rw [if_neg d, if_neg (by omega)]
theorem nl_ar_0 : nl_ar bs se 0 = bs := by
  funext s
  exact if_neg (Nat.not_lt_zero _)
end
section
variable {NT NO NA b w L ac : Nat} {lm : Int32} {pa st ln lr wo wk wp q bs se rd wr ve hi : Nat → Int32} {post : Int32 → SX → Prop}
theorem nl_Xar_l (hb : NO ≤ 8) (h : post 0 (nI NT, nI NO, nI NA, nI 0, lm, nI w, nI 0, nI 0, pa, st, ln, lr, wo, wk, wp, q, nl_ar bs se NO, se, rd, wr, ve, hi)) : ∀ d x, x + d = NO → wX_archive_12 post (nI NT) (nI NO) (nI NA) (nI b) lm (nI w) (nI L) (nI ac) (d + 1) (nI x) pa st ln lr wo wk wp q (nl_ar bs se x) se rd wr ve hi := by
  intro d
  induction d with
  | zero =>
    intro x hu
    have e : x = NO := by omega
    subst e
    exact br_t (nI_le (by omega) (by omega)) h
  | succ d ih =>
    intro x hu
    have k := ih (x + 1) (by omega)
    rw [nl_ar_s] at k
    have v : vp_in (nI x) 8 := vp_in_nI (by omega) (by omega)
    refine br_f (nI_ge (by omega) (by omega)) ⟨v, v, ?_⟩
    rw [nI_clamp (by omega)]
    exact nm_e (nm_r (nI_1 x) k)
theorem nl_Xar (hb : NO ≤ 8) (h1 : lm = 0 → post 0 (nI NT, nI NO, nI NA, nI 0, lm, nI w, nI 0, nI 0, pa, st, ln, lr, wo, wk, wp, q, nl_ar bs se NO, se, rd, wr, ve, hi)) (h2 : ¬ lm = 0 → post (-9) (nI NT, nI NO, nI NA, nI b, lm, nI w, nI L, nI ac, pa, st, ln, lr, wo, wk, wp, q, bs, se, rd, wr, ve, hi)) : wpX_archive post (nI NT, nI NO, nI NA, nI b, lm, nI w, nI L, nI ac, pa, st, ln, lr, wo, wk, wp, q, bs, se, rd, wr, ve, hi) := by
  refine br_c (fun z => ⟨NO + 1, ?_⟩) h2
  have k := nl_Xar_l (b := b) (L := L) (ac := ac) hb (h1 z) NO 0 (by omega)
  rw [nl_ar_0] at k
  exact k
end
end
section
def nl_ee : Option (Option Nat) → Int32
  | none => -1
  | some t => nl_en t
section
variable {NT NO NA b w L : Nat} {ln : Nat → Int32} {bs pa st wo wk wp q ow ob kd op rs : Nat → Int32} {post : Int32 → Prop}
theorem nl_Yk1 {t : Nat} (ht : t < b) (hb : b ≤ 16) (h : post 1) : wpY_known post (nI NT, nI NO, nI NA, nI b, nI w, nI L, bs, pa, st, wo, wk, wp, q, ow, ob, kd, op, rs) (nI t) :=
  br_f (nI_pos (by omega)) (br_f (nI_ge ht (by omega)) h)
theorem nl_Yk0 {p : Int32} (hp : p < 0 ∨ nI b ≤ p) (h : post 0) : wpY_known post (nI NT, nI NO, nI NA, nI b, nI w, nI L, bs, pa, st, wo, wk, wp, q, ow, ob, kd, op, rs) p := by
  by_cases h0 : p < 0
  · exact br_t h0 h
  · exact br_f h0 (br_t (hp.resolve_left h0) h)
theorem nl_Yo1 {x : Nat} (hx : x < NO) (hb : NO ≤ 8) (h : post 1) : wpY_isObject post (nI NT, nI NO, nI NA, nI b, nI w, nI L, bs, pa, st, wo, wk, wp, q, ow, ob, kd, op, rs) (nI x) :=
  br_f (nI_pos (by omega)) (br_f (nI_ge hx (by omega)) h)
theorem nl_Yo0 {p : Int32} (hp : p < 0 ∨ nI NO ≤ p) (h : post 0) : wpY_isObject post (nI NT, nI NO, nI NA, nI b, nI w, nI L, bs, pa, st, wo, wk, wp, q, ow, ob, kd, op, rs) p := by
  by_cases h0 : p < 0
  · exact br_t h0 h
  · exact br_f h0 (br_t (hp.resolve_left h0) h)
theorem nl_Yl {t : Nat} (ht : t < b) (hb : b ≤ 16) (h1 : nl_lv st t = true → post 1) (h0 : nl_lv st t = false → post 0) : wpY_live post (nI NT, nI NO, nI NA, nI b, nI w, nI L, bs, pa, st, wo, wk, wp, q, ow, ob, kd, op, rs) (nI t) := by
  unfold wpY_live
  have v : vp_in (nI t) 16 := vp_in_nI (by omega) (by omega)
  refine nl_Yk1 ht hb (br_f (by decide) ⟨v, ?_⟩)
  rw [nI_clamp (by omega)]
  exact br_c (fun z => h1 (nl_lv_i.mpr (Or.inl z))) (fun z => ⟨v, br_c (fun z2 => h1 (nl_lv_i.mpr (Or.inr z2))) (fun z2 => h0 (nl_nt (fun k => (nl_lv_i.mp k).elim z z2)))⟩)
theorem nl_Yl0 {p : Int32} (hp : p < 0 ∨ nI b ≤ p) (h : post 0) : wpY_live post (nI NT, nI NO, nI NA, nI b, nI w, nI L, bs, pa, st, wo, wk, wp, q, ow, ob, kd, op, rs) p := by
  unfold wpY_live
  exact nl_Yk0 hp (br_t rfl h)
theorem nl_Yon_l (hb : b ≤ 16) (T : nl_TR b pa ln) {a : Nat} (ha : a < 2 ^ 31) : ∀ t, t < b → ∀ n s, t + 1 < n → s + t < 16 → (bt (ln t) a = true → post 1) → (bt (ln t) a = false → post 0) → wY_onLine_5 post (nI a) (nI NT) (nI NO) (nI NA) (nI b) (nI w) (nI L) bs pa st wo wk wp q ow ob kd op rs n (nI t) (nI s) := by
  intro t
  induction t using Nat.strongRecOn with
  | _ t ih =>
    intro ht n s hn hs h1 h0
    obtain ⟨n, rfl⟩ : ∃ k, n = k + 2 := ⟨n - 2, by omega⟩
    refine br_f (nI_ge (a := s) (b := 16) (by omega) (by omega)) (br_f (nl_ne1 (by omega)) ?_)
    by_cases c : t = a
    · subst c
      exact br_t rfl (h1 (nl_tr_self T ht))
    · refine br_f (fun z => c ((nI_eq (by omega) ha).mp z)) ⟨vp_in_nI (by omega) (by omega), ?_⟩
      rw [nI_clamp (by omega)]
      rcases T t ht with ⟨e1, e2⟩ | ⟨j, hj, e1, e2⟩
      · have k : post 0 := h0 (by rw [e2, decide_eq_false (fun z => c z.symm)])
        exact nm_r e1 (nm_r (nI_1 s) (br_c (fun _ => k) (fun _ => br_t rfl k)))
      · rw [e2, decide_eq_false (fun z => c z.symm), Bool.false_or] at h1 h0
        exact nm_r e1 (nm_r (nI_1 s) (ih j hj (by omega) (n + 1) (s + 1) (by omega) (by omega) h1 h0))
theorem nl_Yon (hb : b ≤ 16) (T : nl_TR b pa ln) {a t : Nat} (ha : a < 2 ^ 31) (ht : t < b) (h1 : bt (ln t) a = true → post 1) (h0 : bt (ln t) a = false → post 0) : wpY_onLine post (nI NT, nI NO, nI NA, nI b, nI w, nI L, bs, pa, st, wo, wk, wp, q, ow, ob, kd, op, rs) (nI a) (nI t) :=
  ⟨t + 2, nl_Yon_l hb T ha t ht (t + 2) 0 (by omega) (by omega) h1 h0⟩
theorem nl_Yho_l (hb : b ≤ 16) (T : nl_TR b pa ln) : ∀ t, t < b → ∀ n s, t + 1 < n → s + t < 16 → post (nl_en (nl_hd pa st t)) → wY_holder_21 post (nI NT) (nI NO) (nI NA) (nI b) (nI w) (nI L) bs pa st wo wk wp q ow ob kd op rs n (nI t) (nI s) := by
  intro t
  induction t using Nat.strongRecOn with
  | _ t ih =>
    intro ht n s hn hs h
    obtain ⟨n, rfl⟩ : ∃ k, n = k + 2 := ⟨n - 2, by omega⟩
    refine br_f (nI_ge (a := s) (b := 16) (by omega) (by omega)) (br_f (nl_ne1 (by omega)) ?_)
    refine nl_Yl ht hb (fun hl => br_f (by decide) ?_) (fun hl => br_t rfl ⟨vp_in_nI (by omega) (by omega), ?_⟩)
    · rw [nl_hd_l hl] at h; exact h
    · rw [nI_clamp (by omega)]
      rcases T t ht with ⟨e1, e2⟩ | ⟨j, hj, e1, e2⟩
      · rw [nl_hd_r hl e1] at h
        exact nm_r e1 (nm_r (nI_1 s) (br_c (fun _ => h) (fun _ => br_t rfl h)))
      · rw [nl_hd_j T hb ht hl e1 hj] at h
        exact nm_r e1 (nm_r (nI_1 s) (ih j hj (by omega) (n + 1) (s + 1) (by omega) (by omega) h))
theorem nl_Yho (hb : b ≤ 16) (T : nl_TR b pa ln) (EN : nl_EN b L ow kd) (hL : L ≤ 80) {i : Nat} (hi : i < L) (h : post (nl_ee (nl_E pa st ow i))) : wpY_holder post (nI NT, nI NO, nI NA, nI b, nI w, nI L, bs, pa, st, wo, wk, wp, q, ow, ob, kd, op, rs) (nI i) := by
  obtain ⟨⟨o, ho, eo⟩, _⟩ := EN i hi
  rw [nl_E_cl eo (by omega)] at h
  refine ⟨vp_in_nI (by omega) (by omega), ?_⟩
  rw [nI_clamp (by omega)]
  refine nm_r eo ⟨vp_in_nI (by omega) (by omega), ?_⟩
  rw [nI_clamp (by omega)]
  refine br_c (fun z => ?_) (fun z => ⟨o + 2, nl_Yho_l hb T o ho (o + 2) 0 (by omega) (by omega) ?_⟩)
  · rw [nl_eh_3 z] at h; exact h
  · rw [nl_eh_n z] at h; exact h
theorem nl_ee_s {e : Option (Option Nat)} {h : Nat} (hh : h < 2 ^ 31) (he : ∀ g, e = some (some g) → g < 2 ^ 31) : nl_ee e = nI h ↔ e = some (some h) := by
  match e, he with
  | none, _ => exact ⟨fun z => absurd z.symm (nl_ne1 hh), fun z => nomatch z⟩
  | some none, _ => exact ⟨fun z => absurd z.symm (nl_ne1 hh), fun z => nomatch z⟩
  | some (some g), he =>
    show nI g = nI h ↔ _
    rw [nI_eq (he g rfl) hh]
    exact ⟨fun z => by rw [z], fun z => by cases z; rfl⟩
theorem nl_Ylk_l (hb : b ≤ 16) (T : nl_TR b pa ln) (EN : nl_EN b L ow kd) (hL : L ≤ 80) {h : Nat} (hh : h < 2 ^ 31) {x : Int32}
    (h2 : nl_WR (nl_E pa st ow) kd ob L x h → post 2) (h1 : ¬ nl_WR (nl_E pa st ow) kd ob L x h → nl_RD (nl_E pa st ow) kd ob L x h → post 1) (h0 : ¬ nl_WR (nl_E pa st ow) kd ob L x h → ¬ nl_RD (nl_E pa st ow) kd ob L x h → post 0) :
    ∀ d i f, i + d = L → ¬ nl_WR (nl_E pa st ow) kd ob i x h → ((f = 0 ∧ ¬ nl_RD (nl_E pa st ow) kd ob i x h) ∨ (f = 1 ∧ nl_RD (nl_E pa st ow) kd ob i x h)) → wY_lockOf_5 post (nI h) x (nI NT) (nI NO) (nI NA) (nI b) (nI w) (nI L) bs pa st wo wk wp q ow ob kd op rs (d + 1) f (nI i) := by
  intro d
  induction d with
  | zero =>
    intro i f hd hW hf
    have e : i = L := by omega
    subst e
    refine br_t (nI_le (by omega) (by omega)) ?_
    rcases hf with ⟨e, k⟩ | ⟨e, k⟩
    · rw [e]; exact h0 hW k
    · rw [e]; exact h1 hW k
  | succ d ih =>
    intro i f hd hW hf
    have hi : i < L := by omega
    have v : vp_in (nI i) 80 := vp_in_nI (by omega) (by omega)
    have skip : ¬ ((kd i = 1 ∨ kd i = 2) ∧ ob i = x ∧ nl_E pa st ow i = some (some h)) → ¬ (kd i = 0 ∧ ob i = x ∧ nl_E pa st ow i = some (some h)) → wY_lockOf_5 post (nI h) x (nI NT) (nI NO) (nI NA) (nI b) (nI w) (nI L) bs pa st wo wk wp q ow ob kd op rs (d + 1) f (nI (i + 1)) := fun s1 s2 => by
      refine ih (i + 1) f (by omega) (fun z => ?_) ?_
      · exact (nl_WR_s.mp z).elim hW s1
      · rcases hf with ⟨e, k⟩ | ⟨e, k⟩
        · exact Or.inl ⟨e, fun z => (nl_RD_s.mp z).elim k s2⟩
        · exact Or.inr ⟨e, nl_RD_s.mpr (Or.inl k)⟩
    refine br_f (nI_ge (by omega) (by omega)) ⟨v, ?_⟩
    rw [nI_clamp (by omega)]
    refine br_c (fun k3 => nm_r (nI_1 i) (skip ?_ ?_)) (fun k3 => ⟨v, br_c (fun ko => ?_) (fun ko => nm_r (nI_1 i) (skip ?_ ?_))⟩)
    · rintro ⟨z, _⟩; rw [k3] at z; exact absurd z (by decide)
    · rintro ⟨z, _⟩; rw [k3] at z; exact absurd z (by decide)
    · have key : nl_ee (nl_E pa st ow i) = nI h ↔ nl_E pa st ow i = some (some h) := nl_ee_s hh (fun g eg => by
        obtain ⟨⟨o, ho, eo⟩, _⟩ := EN i hi
        rw [nl_E_cl eo (by omega)] at eg
        have := (nl_eh_s T hb ho eg).2.2
        omega)
      refine nl_Yho hb T EN hL hi (br_c (fun ke => ⟨v, br_c (fun k0 => nm_r (nI_1 i) ?_) (fun k0 => h2 ?_)⟩) (fun ke => nm_r (nI_1 i) (skip ?_ ?_)))
      · refine ih (i + 1) 1 (by omega) (fun z => ?_) (Or.inr ⟨rfl, nl_RD_s.mpr (Or.inr ⟨k0, ko, key.mp ke⟩)⟩)
        refine (nl_WR_s.mp z).elim hW (fun z => ?_)
        rw [k0] at z; exact absurd z.1 (by decide)
      · refine ⟨i, hi, ?_, ko, key.mp ke⟩
        rcases (EN i hi).2 with z | z | z | z
        · exact absurd z k0
        · exact Or.inl z
        · exact Or.inr z
        · exact absurd z k3
      · exact fun z => ke (key.mpr z.2.2)
      · exact fun z => ke (key.mpr z.2.2)
    · exact fun z => ko z.2.1
    · exact fun z => ko z.2.1
theorem nl_Ylk (hb : b ≤ 16) (T : nl_TR b pa ln) (EN : nl_EN b L ow kd) (hL : L ≤ 80) {h : Nat} (hh : h < 2 ^ 31) {x : Int32}
    (h2 : nl_WR (nl_E pa st ow) kd ob L x h → post 2) (h1 : ¬ nl_WR (nl_E pa st ow) kd ob L x h → nl_RD (nl_E pa st ow) kd ob L x h → post 1) (h0 : ¬ nl_WR (nl_E pa st ow) kd ob L x h → ¬ nl_RD (nl_E pa st ow) kd ob L x h → post 0) : wpY_lockOf post (nI NT, nI NO, nI NA, nI b, nI w, nI L, bs, pa, st, wo, wk, wp, q, ow, ob, kd, op, rs) (nI h) x :=
  ⟨L + 1, nl_Ylk_l hb T EN hL hh h2 h1 h0 L 0 0 (by omega) (fun z => by obtain ⟨i, hi, _⟩ := z; exact absurd hi (Nat.not_lt_zero _)) (Or.inl ⟨rfl, fun z => by obtain ⟨i, hi, _⟩ := z; exact absurd hi (Nat.not_lt_zero _)⟩)⟩
theorem nl_Yfb_l (hb : b ≤ 16) (T : nl_TR b pa ln) (EN : nl_EN b L ow kd) (hL : L ≤ 80) {t : Nat} (ht : t < b) {x k mk r wv : Int32} (hr : ∀ h, bt r h = true ↔ nl_RD (nl_E pa st ow) kd ob L x h) (hw : ∀ h, bt wv h = true ↔ nl_WR (nl_E pa st ow) kd ob L x h)
    (lw : ∀ h, bt wv h = true → nl_lv st h = true) (lr : ∀ h, bt r h = true → nl_lv st h = true) (BK : nl_BK r wv (ln t) k mk)
    (h1 : ∀ h, h < b → bt mk h = true → (∀ g, g < h → bt mk g = false) → post (nI h)) (h0 : (∀ g, g < b → bt mk g = false) → post (-1)) :
    ∀ d a, a + d = b → (∀ g, g < a → bt mk g = false) → wY_firstBlocker_3 post (nI t) x k (nI NT) (nI NO) (nI NA) (nI b) (nI w) (nI L) bs pa st wo wk wp q ow ob kd op rs (d + 1) (nI a) := by
  intro d
  induction d with
  | zero =>
    intro a ha hf
    have e : a = b := by omega
    subst e
    exact br_t (nI_le (by omega) (by omega)) (h0 hf)
  | succ d ih =>
    intro a ha hf
    have hab : a < b := by omega
    have go : bt mk a = false → wY_firstBlocker_3 post (nI t) x k (nI NT) (nI NO) (nI NA) (nI b) (nI w) (nI L) bs pa st wo wk wp q ow ob kd op rs (d + 1) (nI (a + 1)) := fun z =>
      ih (a + 1) (by omega) (fun g hg => by
        by_cases c : g = a
        · rw [c]; exact z
        · exact hf g (by omega))
    refine br_f (nI_ge (by omega) (by omega)) (nl_Yl hab hb (fun hl => br_f (by decide) ?_) (fun hl => br_t rfl (nm_r (nI_1 a) (go ?_))))
    · refine nl_Yon hb T (by omega) ht (fun hon => br_f (by decide) (nm_r (nI_1 a) (go ?_))) (fun hon => br_t rfl ?_)
      · rw [BK a, hon, Bool.not_true, Bool.and_false]
      · refine nl_Ylk hb T EN hL (by omega) (fun hW => br_t rfl (h1 a hab ?_ hf)) (fun hW hR => br_f (by decide) (br_c (fun k0 => nm_r (nI_1 a) (go ?_)) (fun k0 => br_f (by decide) (h1 a hab ?_ hf)))) (fun hW hR => br_f (by decide) (br_c (fun k0 => nm_r (nI_1 a) (go ?_)) (fun k0 => br_t rfl (nm_r (nI_1 a) (go ?_)))))
        · rw [BK a, hon, (hw a).mpr hW]; rfl
        · rw [BK a, nl_nt (fun z => hW ((hw a).mp z)), decide_eq_false (fun z => z k0)]; rfl
        · rw [BK a, hon, (hr a).mpr hR, decide_eq_true k0, Bool.true_and, Bool.or_true]; rfl
        · rw [BK a, nl_nt (fun z => hW ((hw a).mp z)), decide_eq_false (fun z => z k0)]; rfl
        · rw [BK a, nl_nt (fun z => hW ((hw a).mp z)), nl_nt (fun z => hR ((hr a).mp z)), Bool.and_false]; rfl
    · have k1 : bt wv a = false := nl_nt (fun z => by rw [lw a z] at hl; exact nomatch hl)
      have k2 : bt r a = false := nl_nt (fun z => by rw [lr a z] at hl; exact nomatch hl)
      rw [BK a, k1, k2, Bool.and_false]; rfl
theorem nl_Yfb (hb : b ≤ 16) (T : nl_TR b pa ln) (EN : nl_EN b L ow kd) (hL : L ≤ 80) {t : Nat} (ht : t < b) {x k mk r wv : Int32} (hr : ∀ h, bt r h = true ↔ nl_RD (nl_E pa st ow) kd ob L x h) (hw : ∀ h, bt wv h = true ↔ nl_WR (nl_E pa st ow) kd ob L x h)
    (lw : ∀ h, bt wv h = true → nl_lv st h = true) (lr : ∀ h, bt r h = true → nl_lv st h = true) (BK : nl_BK r wv (ln t) k mk)
    (h1 : ∀ h, h < b → bt mk h = true → (∀ g, g < h → bt mk g = false) → post (nI h)) (h0 : (∀ g, g < b → bt mk g = false) → post (-1)) : wpY_firstBlocker post (nI NT, nI NO, nI NA, nI b, nI w, nI L, bs, pa, st, wo, wk, wp, q, ow, ob, kd, op, rs) (nI t) x k :=
  ⟨b + 1, nl_Yfb_l hb T EN hL ht hr hw lw lr BK h1 h0 b 0 (by omega) (fun g hg => absurd hg (Nat.not_lt_zero _))⟩
theorem nl_Y105 {J : Int32 → Int32 → Prop} {x1 x2 v : Int32} {i : Nat} (hi : i < 80) (h2 : kd i = 2 → J (v + op i) (nI (i + 1))) (h : ¬ kd i = 2 → J v (nI (i + 1))) : wY_viewOf_105 post J x1 x2 v (nI i) (nI NT) (nI NO) (nI NA) (nI b) (nI w) (nI L) bs pa st wo wk wp q ow ob kd op rs := by
  unfold wY_viewOf_105
  rw [nI_clamp (by omega)]
  have w : vp_in (nI i) 80 := vp_in_nI (by omega) (by omega)
  exact ⟨w, br_c (fun z => ⟨w, nm_e (nm_r (nI_1 i) (h2 z))⟩) (fun z => nm_r (nI_1 i) (h z))⟩
theorem nl_Y86 {J : Int32 → Int32 → Prop} {x1 x2 v : Int32} {i : Nat} (hi : i < 80) (h : J (nl_s1 (kd i) (op i) v) (nI (i + 1))) : wY_viewOf_86 post J x1 x2 v (nI i) (nI NT) (nI NO) (nI NA) (nI b) (nI w) (nI L) bs pa st wo wk wp q ow ob kd op rs := by
  unfold wY_viewOf_86
  rw [nI_clamp (by omega)]
  have w : vp_in (nI i) 80 := vp_in_nI (by omega) (by omega)
  refine ⟨w, br_c (fun z => ⟨w, nm_e (nl_Y105 hi (fun z2 => ?_) (fun z2 => ?_))⟩) (fun z => nl_Y105 hi (fun z2 => ?_) (fun z2 => ?_))⟩
  · rw [z] at z2; exact absurd z2 (by decide)
  · rw [z, nl_s1_1] at h; exact h
  · rw [z2, nl_s1_2] at h; exact h
  · rw [nl_s1_n z z2] at h; exact h
theorem nl_Yvw_l (hb : b ≤ 16) (T : nl_TR b pa ln) (EN : nl_EN b L ow kd) (hL : L ≤ 80) {t : Option Nat} (ht : ∀ a, t = some a → a < b) {x b0 : Int32} (h : post (nl_V (nl_E pa st ow) kd ob op ln L b0 x t)) :
    ∀ d i, i + d = L → wY_viewOf_10 post (nl_en t) x (nI NT) (nI NO) (nI NA) (nI b) (nI w) (nI L) bs pa st wo wk wp q ow ob kd op rs (d + 1) (nl_vw (nl_se (nl_E pa st ow) kd ob ln t x) kd op b0 i) (nI i) := by
  intro d
  induction d with
  | zero =>
    intro i hd
    have e : i = L := by omega
    subst e
    exact br_t (nI_le (by omega) (by omega)) h
  | succ d ih =>
    intro i hd
    have hi : i < L := by omega
    have v : vp_in (nI i) 80 := vp_in_nI (by omega) (by omega)
    have k := ih (i + 1) (by omega)
    have kf : nl_se (nl_E pa st ow) kd ob ln t x i = false → wY_viewOf_10 post (nl_en t) x (nI NT) (nI NO) (nI NA) (nI b) (nI w) (nI L) bs pa st wo wk wp q ow ob kd op rs (d + 1) (nl_vw (nl_se (nl_E pa st ow) kd ob ln t x) kd op b0 i) (nI (i + 1)) := fun z => by
      rw [nl_vw_f z] at k; exact k
    have kt : nl_se (nl_E pa st ow) kd ob ln t x i = true → wY_viewOf_86 post (wY_viewOf_10 post (nl_en t) x (nI NT) (nI NO) (nI NA) (nI b) (nI w) (nI L) bs pa st wo wk wp q ow ob kd op rs (d + 1)) (nl_en t) x (nl_vw (nl_se (nl_E pa st ow) kd ob ln t x) kd op b0 i) (nI i) (nI NT) (nI NO) (nI NA) (nI b) (nI w) (nI L) bs pa st wo wk wp q ow ob kd op rs := fun z => by
      rw [nl_vw_t z] at k; exact nl_Y86 (by omega) k
    obtain ⟨⟨o, ho, eo⟩, _⟩ := EN i hi
    have eE : nl_E pa st ow i = nl_eh pa st o := nl_E_cl eo (by omega)
    refine br_f (nI_ge (by omega) (by omega)) ⟨v, ?_⟩
    rw [nI_clamp (by omega), eo, nI_clamp (show o < 2 ^ 31 by omega)]
    refine br_c (fun k3 => nm_r (nI_1 i) (kf ?_)) (fun k3 => ⟨v, br_c (fun ko => ⟨v, vp_in_nI (by omega) (by omega), br_c (fun ks => nm_r (nI_1 i) (kf ?_)) (fun ks => ?_)⟩) (fun ko => nm_r (nI_1 i) (kf ?_))⟩)
    · unfold nl_se; rw [decide_eq_false (fun z => z k3), Bool.false_and]
    · unfold nl_se; rw [eE, nl_eh_3 ks, show nl_ok ln t none = false from rfl, Bool.and_false, Bool.and_false]
    · have se : nl_se (nl_E pa st ow) kd ob ln t x i = nl_ok ln t (nl_E pa st ow i) := by
        unfold nl_se; rw [decide_eq_true k3, decide_eq_true ko, Bool.true_and, Bool.true_and]
      refine nl_Yho hb T EN hL hi ?_
      rw [eE, nl_eh_n ks]
      rw [eE, nl_eh_n ks] at se
      cases hd : nl_hd pa st o with
      | none =>
        rw [hd] at se
        exact br_t rfl (kt se)
      | some g =>
        rw [hd] at se
        have gk := nl_tr_le T o ho g (nl_hd_s T hb o ho g hd).2
        refine br_f (nl_ne1 (by omega)) ?_
        match t, ht, kf, kt, se with
        | none, _, kf, kt, se => exact br_t rfl (nm_r (nI_1 i) (kf se))
        | some a, ht, kf, kt, se =>
          have ha := ht a rfl
          refine br_f (nl_ne1 (by omega)) (nl_Yon hb T (by omega) ha (fun z => br_f (by decide) (kt ?_)) (fun z => br_t rfl (nm_r (nI_1 i) (kf ?_))))
          · exact se.trans z
          · exact se.trans z
    · unfold nl_se; rw [decide_eq_false ko, Bool.false_and, Bool.and_false]
theorem nl_Yvw (hb : b ≤ 16) (T : nl_TR b pa ln) (EN : nl_EN b L ow kd) (hL : L ≤ 80) {t : Option Nat} (ht : ∀ a, t = some a → a < b) {x : Nat} (hx : x < 8) (h : post (nl_V (nl_E pa st ow) kd ob op ln L (bs x) (nI x) t)) : wpY_viewOf post (nI NT, nI NO, nI NA, nI b, nI w, nI L, bs, pa, st, wo, wk, wp, q, ow, ob, kd, op, rs) (nl_en t) (nI x) := by
  refine ⟨vp_in_nI hx (by omega), ?_⟩
  rw [nI_clamp (by omega)]
  exact nm_e ⟨L + 1, nl_Yvw_l hb T EN hL ht h L 0 (by omega)⟩
end
section
variable {NT NO NA b w L : Nat} {ln : Nat → Int32} {bs pa st wo wk wp q ow ob kd op rs : Nat → Int32} {post : SY → Prop}
theorem nl_Yap {p0 p1 p2 p3 p4 : Int32} (hL : L < 80) (h : post (nI NT, nI NO, nI NA, nI b, nI w, nI (L + 1), bs, pa, st, wo, wk, wp, q, upd ow L p0, upd ob L p1, upd kd L p2, upd op L p3, upd rs L p4)) : wpY_append post (nI NT, nI NO, nI NA, nI b, nI w, nI L, bs, pa, st, wo, wk, wp, q, ow, ob, kd, op, rs) p0 p1 p2 p3 p4 := by
  have e : (nI L).toNatClampNeg = L := nI_clamp (by omega)
  have v : vp_in (nI L) 80 := vp_in_nI hL (by omega)
  exact br_t (nI_lt (b := 80) hL (by omega)) ⟨v, nm_r (congrArg (fun z => upd ow z p0) e) ⟨v, nm_r (congrArg (fun z => upd ob z p1) e) ⟨v, nm_r (congrArg (fun z => upd kd z p2) e) ⟨v, nm_r (congrArg (fun z => upd op z p3) e) ⟨v, nm_r (congrArg (fun z => upd rs z p4) e) (nm_r (nI_1 L) h)⟩⟩⟩⟩⟩
theorem nl_Yg {t : Nat} {x k o sv : Int32} (ht : t < 16) (hL : L < 80) (hv : ∀ pq : Int32 → Prop, pq sv → wpY_viewOf pq (nI NT, nI NO, nI NA, nI b, nI w, nI L, bs, pa, st, wo, wk, wp, q, ow, ob, kd, op, rs) (nI t) x) (h : post (nI NT, nI NO, nI NA, nI b, nI w, nI (L + 1), bs, pa, upd st t 0, wo, wk, wp, q, upd ow L (nI t), upd ob L x, upd kd L k, upd op L o, upd rs L sv)) : wpY_grant post (nI NT, nI NO, nI NA, nI b, nI w, nI L, bs, pa, st, wo, wk, wp, q, ow, ob, kd, op, rs) (nI t) x k o := by
  unfold wpY_grant
  refine hv _ (nl_Yap hL ?_)
  exact ⟨vp_in_nI ht (by omega), nm_r (congrArg (fun z => upd st z 0) (nI_clamp (by omega))) h⟩
end
end
section
theorem nl_hr {t : Nat} (ht : t < 32) {r r' hb : Int32} {p : Option Nat} (hh : ∀ h, bt hb h = true ↔ p = some h) (e : (bt r t = false ∧ r' = r) ∨ (bt r t = true ∧ r' = (r &&& (((1 : Int32) <<< (nI t &&& 31)) ^^^ (-1))) ||| hb)) (h : Nat) : bt r' h = true ↔ (bt r h = true ∧ ¬ h = t) ∨ (bt r t = true ∧ p = some h) := by
  rcases e with ⟨e1, e2⟩ | ⟨e1, e2⟩
  · rw [e2, e1]
    constructor
    · intro z
      exact Or.inl ⟨z, fun k => by rw [k, e1] at z; exact nomatch z⟩
    · rintro (z | z)
      · exact z.1
      · exact nomatch z.1
  · rw [e2, b_or, nl_an, nl_sh ht, Bool.or_eq_true, Bool.and_eq_true, Bool.not_eq_true', decide_eq_false_iff_not, hh h]
    exact ⟨fun z => z.elim Or.inl (fun k => Or.inr ⟨e1, k⟩), fun z => z.elim Or.inl (fun k => Or.inr k.2)⟩
section
variable {E E' : Nat → Option (Option Nat)} {kd ob op ln pa bs rd wr se ve rd' wr' se' ve' : Nat → Int32} {L b t NO x : Nat} {hb : Int32} {p : Option Nat}
theorem nl_pl_step (T : nl_TR b pa ln) (b16 : b ≤ 16) (HE : ∀ i, i < L → ∀ h, E i = some (some h) → h < b) (HE' : ∀ i, i < L → ∀ h, E' i = some (some h) → h < b) (ht : t < b)
    (hlive : ∀ i, i < L → ∀ h, E i = some (some h) → bt (ln h) t = true → h = t)
    (hp : (p = none ∧ ∀ a, bt (ln t) a = decide (a = t)) ∨ (∃ j, p = some j ∧ j < t ∧ ∀ a, bt (ln t) a = (decide (a = t) || bt (ln j) a)))
    (hE : ∀ i, i < L → E' i = nl_mv t p (E i)) (hh : ∀ h, bt hb h = true ↔ p = some h)
    (A : ∀ y, y < x → nl_OB E' kd ob op ln L (bs y) (nI y) (rd y) (wr y) (se y) (fun h => ve (y * 16 + h)))
    (B : ∀ y, x ≤ y → y < NO → nl_OB E kd ob op ln L (bs y) (nI y) (rd y) (wr y) (se y) (fun h => ve (y * 16 + h))) (hx : x < NO)
    (frd : ∀ y, y ≠ x → rd' y = rd y) (fwr : ∀ y, y ≠ x → wr' y = wr y) (fse : ∀ y, y ≠ x → se' y = se y) (fve : ∀ y h, y ≠ x → h < 16 → ve' (y * 16 + h) = ve (y * 16 + h))
    (er : (bt (rd x) t = false ∧ rd' x = rd x) ∨ (bt (rd x) t = true ∧ rd' x = (rd x &&& (((1 : Int32) <<< (nI t &&& 31)) ^^^ (-1))) ||| hb))
    (ew : (bt (wr x) t = false ∧ wr' x = wr x) ∨ (bt (wr x) t = true ∧ wr' x = (wr x &&& (((1 : Int32) <<< (nI t &&& 31)) ^^^ (-1))) ||| hb))
    (es : se' x = if bt (wr x) t = true ∧ p = none then ve (x * 16 + t) else se x)
    (ev : ∀ h, h < 16 → ve' (x * 16 + h) = if bt (wr x) t = true ∧ p = some h then ve (x * 16 + t) else ve (x * 16 + h)) :
    (∀ y, y < x + 1 → nl_OB E' kd ob op ln L (bs y) (nI y) (rd' y) (wr' y) (se' y) (fun h => ve' (y * 16 + h))) ∧ (∀ y, x + 1 ≤ y → y < NO → nl_OB E kd ob op ln L (bs y) (nI y) (rd' y) (wr' y) (se' y) (fun h => ve' (y * 16 + h))) := by
  constructor
  · intro y hy
    by_cases c : y = x
    · subst c
      have O := B y (Nat.le_refl y) hx
      have hw := nl_hr (by omega) hh ew
      refine nl_OB_c T O HE ht (fun h k z => ?_) hp hE (nl_hr (by omega) hh er) hw es (fun h k => ev h ?_)
      · rcases k with k | k
        · obtain ⟨i, hi, _, _, e⟩ := (O.2.1 h).mp k
          exact hlive i hi h e z
        · obtain ⟨i, hi, _, _, e⟩ := (O.1 h).mp k
          exact hlive i hi h e z
      · rcases (hw h).mp k with k | k
        · obtain ⟨i, hi, _, _, e⟩ := (O.2.1 h).mp k.1
          have := HE i hi h e
          omega
        · rcases hp with ⟨e, _⟩ | ⟨j, e, hj, _⟩
          · rw [e] at k; exact nomatch k.2
          · rw [e] at k
            have := Option.some.inj k.2
            omega
    · rw [frd y c, fwr y c, fse y c]
      refine nl_OB_v (A y (by omega)) (fun h k => fve y h c ?_)
      obtain ⟨i, hi, _, _, e⟩ := ((A y (by omega)).2.1 h).mp k
      have := HE' i hi h e
      omega
  · intro y hy hy2
    have c : y ≠ x := by omega
    rw [frd y c, fwr y c, fse y c]
    refine nl_OB_v (B y (by omega) hy2) (fun h k => fve y h c ?_)
    obtain ⟨i, hi, _, _, e⟩ := ((B y (by omega) hy2).2.1 h).mp k
    have := HE i hi h e
    omega
end
section
variable {NT NO NA b w L ac : Nat} {lm : Int32} {pa st ln lr wo wk wp q bs hi : Nat → Int32} {post : SX → Prop}
variable {E E' : Nat → Option (Option Nat)} {kd ob op : Nat → Int32} {t : Nat} {hb : Int32} {p : Option Nat}
theorem nl_Xpl_l (hNO : NO ≤ 8) (T : nl_TR b pa ln) (b16 : b ≤ 16) (HE : ∀ i, i < L → ∀ h, E i = some (some h) → h < b) (HE' : ∀ i, i < L → ∀ h, E' i = some (some h) → h < b) (ht : t < b)
    (hlive : ∀ i, i < L → ∀ h, E i = some (some h) → bt (ln h) t = true → h = t)
    (hp : (p = none ∧ ∀ a, bt (ln t) a = decide (a = t)) ∨ (∃ j, p = some j ∧ j < t ∧ ∀ a, bt (ln t) a = (decide (a = t) || bt (ln j) a)))
    (hE : ∀ i, i < L → E' i = nl_mv t p (E i)) (hh : ∀ h, bt hb h = true ↔ p = some h) {hv : Int32} (ehv : hv = nl_en p)
    (h : ∀ rd wr se ve : Nat → Int32, nl_OBS NO E' kd ob op ln L bs se rd wr ve → post (nI NT, nI NO, nI NA, nI b, lm, nI w, nI L, nI ac, pa, st, ln, lr, wo, wk, wp, q, bs, se, rd, wr, ve, hi)) :
    ∀ d x (rd wr se ve : Nat → Int32), x + d = NO → (∀ y, y < x → nl_OB E' kd ob op ln L (bs y) (nI y) (rd y) (wr y) (se y) (fun h => ve (y * 16 + h))) → (∀ y, x ≤ y → y < NO → nl_OB E kd ob op ln L (bs y) (nI y) (rd y) (wr y) (se y) (fun h => ve (y * 16 + h))) →
      wX_passLocks_28 post (nI t) ((1 : Int32) <<< (nI t &&& 31)) hv hb (d + 1) (nI x) (nI NT) (nI NO) (nI NA) (nI b) lm (nI w) (nI L) (nI ac) pa st ln lr wo wk wp q bs se rd wr ve hi := by
  intro d
  induction d with
  | zero =>
    intro x rd wr se ve hx A B
    have e : x = NO := by omega
    subst e
    exact br_t (nI_le (by omega) (by omega)) (h rd wr se ve A)
  | succ d ih =>
    intro x rd wr se ve hx A B
    have v : vp_in (nI x) 8 := vp_in_nI (by omega) (by omega)
    have ex : (nI x).toNatClampNeg = x := nI_clamp (by omega)
    have step := fun (rd' wr' se' ve' : Nat → Int32) => nl_pl_step (rd' := rd') (wr' := wr') (se' := se') (ve' := ve') T b16 HE HE' ht hlive hp hE hh A B (by omega)
    have W : ∀ rd' : Nat → Int32, (∀ y, y ≠ x → rd' y = rd y) → ((bt (rd x) t = false ∧ rd' x = rd x) ∨ (bt (rd x) t = true ∧ rd' x = (rd x &&& (((1 : Int32) <<< (nI t &&& 31)) ^^^ (-1))) ||| hb)) →
        wX_passLocks_70 post (wX_passLocks_28 post (nI t) ((1 : Int32) <<< (nI t &&& 31)) hv hb (d + 1)) (nI t) ((1 : Int32) <<< (nI t &&& 31)) hv hb (nI x) (nI NT) (nI NO) (nI NA) (nI b) lm (nI w) (nI L) (nI ac) pa st ln lr wo wk wp q bs se rd' wr ve hi := by
      intro rd' frd er
      unfold wX_passLocks_70
      rw [ex]
      refine ⟨v, br_c (fun z => nm_r (nI_1 x) ?_) (fun z => ⟨v, v, ?_⟩)⟩
      · have z1 : bt (wr x) t = false := (nl_bz (by omega)).mp z
        obtain ⟨A', B'⟩ := step rd' wr se ve frd (fun _ _ => rfl) (fun _ _ => rfl) (fun _ _ _ _ => rfl) er (Or.inl ⟨z1, rfl⟩) (by rw [if_neg (fun k => by rw [z1] at k; exact nomatch k.1)]) (fun h _ => by rw [if_neg (fun k => by rw [z1] at k; exact nomatch k.1)])
        exact ih (x + 1) rd' wr se ve (by omega) A' B'
      · have z1 : bt (wr x) t = true := (nl_bnz (by omega)).mp z
        refine nm_e ?_
        have e1 : nI x * 16 + nI t = nI (x * 16 + t) := by
          rw [← nI_add]; exact congrArg (· + nI t) (pk_mul x 16)
        unfold wpX_passVersion
        dsimp only
        rw [e1, nI_clamp (show x * 16 + t < 2 ^ 31 by omega), ex]
        refine ⟨vp_in_nI (by omega) (by omega), nm_e ?_⟩
        rcases hp with ⟨p1, _⟩ | ⟨j, p1, hj, _⟩
        · have e2 : hv = -1 := by rw [ehv, p1]; rfl
          refine br_t e2 ⟨v, nm_e (nm_r (nI_1 x) ?_)⟩
          obtain ⟨A', B'⟩ := step rd' (upd wr x ((wr x &&& (((1 : Int32) <<< (nI t &&& 31)) ^^^ (-1))) ||| hb)) (upd se x (ve (x * 16 + t))) ve frd (fun y c => pk_un c) (fun y c => pk_un c) (fun _ _ _ _ => rfl) er (Or.inr ⟨z1, pk_us⟩) (by rw [pk_us, if_pos ⟨z1, p1⟩]) (fun h _ => by rw [if_neg (fun k => by rw [p1] at k; exact nomatch k.2)])
          exact ih (x + 1) rd' _ _ ve (by omega) A' B'
        · have e2 : hv = nI j := by rw [ehv, p1]; rfl
          have e3 : nI x * 16 + nI j = nI (x * 16 + j) := by
            rw [← nI_add]; exact congrArg (· + nI j) (pk_mul x 16)
          refine br_f (by rw [e2]; exact nl_ne1 (by omega)) ?_
          rw [e2, e3, nI_clamp (show x * 16 + j < 2 ^ 31 by omega), ← e2]
          refine ⟨vp_in_nI (by omega) (by omega), nm_e (nm_r (nI_1 x) ?_)⟩
          obtain ⟨A', B'⟩ := step rd' (upd wr x ((wr x &&& (((1 : Int32) <<< (nI t &&& 31)) ^^^ (-1))) ||| hb)) se (upd ve (x * 16 + j) (ve (x * 16 + t))) frd (fun y c => pk_un c) (fun _ _ => rfl) (fun y h c h16 => pk_un (by omega)) er (Or.inr ⟨z1, pk_us⟩) (by rw [if_neg (fun k => by rw [p1] at k; exact nomatch k.2)]) (fun h _ => by
            by_cases c : h = j
            · rw [c, pk_us, if_pos ⟨z1, p1⟩]
            · rw [pk_un (by omega), if_neg (fun k => by rw [p1] at k; exact c (Option.some.inj k.2).symm)])
          exact ih (x + 1) rd' _ se _ (by omega) A' B'
    refine br_f (nI_ge (by omega) (by omega)) ⟨v, ?_⟩
    rw [ex]
    refine br_c (fun z => ?_) (fun z => ⟨v, v, nm_e ?_⟩)
    · exact W rd (fun _ _ => rfl) (Or.inl ⟨(nl_bz (by omega)).mp z, rfl⟩)
    · exact W _ (fun y c => pk_un c) (Or.inr ⟨(nl_bnz (by omega)).mp z, pk_us⟩)
end
end
section
section
variable {NT NO NA b w L ac m : Nat} {QS : Nat → Prop} {lm : Int32} {pa st ln lr wo wk wp q bs se rd wr ve hi ow ob kd op rs : Nat → Int32}
theorem nl_L80 (I : nl_I NT NO NA b L ac m QS lm pa st ln lr wo wk q bs se rd wr ve hi ow ob kd op rs) : L ≤ 80 := by
  obtain ⟨⟨z1, z2, z3, z4, z5, z6, z7⟩, _⟩ := I
  omega
theorem nl_sub (I : nl_I NT NO NA b L ac m QS lm pa st ln lr wo wk q bs se rd wr ve hi ow ob kd op rs) {m' : Nat} {QS' : Nat → Prop} (hm : m' ≤ m) (hq : ∀ j, QS' j → QS j) : nl_I NT NO NA b L ac m' QS' lm pa st ln lr wo wk q bs se rd wr ve hi ow ob kd op rs := by
  obtain ⟨⟨z1, z2, z3, z4, z5, z6, z7⟩, T, S, LV, HI, EN, OB, LR, QU, WA⟩ := I
  exact ⟨⟨z1, z2, z3, z4, z5, by omega, z7⟩, T, S, LV, HI, EN, OB, LR, ⟨fun j hj => QU.1 j (hq j hj), fun i j h1 h2 => QU.2 i j (hq i h1) (hq j h2)⟩, WA⟩
theorem nl_Xv (I : nl_I NT NO NA b L ac m QS lm pa st ln lr wo wk q bs se rd wr ve hi ow ob kd op rs) {x : Nat} (hx : x < NO) {t : Option Nat} (ht : ∀ a, t = some a → a < b) (pq : Int32 → Prop) (h : pq (nl_V (nl_E pa st ow) kd ob op ln L (bs x) (nI x) t)) : wpX_visible pq (nI NT, nI NO, nI NA, nI b, lm, nI w, nI L, nI ac, pa, st, ln, lr, wo, wk, wp, q, bs, se, rd, wr, ve, hi) (nl_en t) (nI x) := by
  have WL := fun (h : Nat) => nl_wr_lv I hx (h := h)
  obtain ⟨⟨z1, z2, z3, z4, z5, z6, z7⟩, T, S, LV, HI, EN, OB, LR, QU, WA⟩ := I
  exact nl_Xvis ht (by omega) (by omega) T (OB x hx) (fun h z => (WL h z).1) h
theorem nl_Yv (I : nl_I NT NO NA b L ac m QS lm pa st ln lr wo wk q bs se rd wr ve hi ow ob kd op rs) {x : Nat} (hx : x < NO) {t : Option Nat} (ht : ∀ a, t = some a → a < b) (pq : Int32 → Prop) (h : pq (nl_V (nl_E pa st ow) kd ob op ln L (bs x) (nI x) t)) : wpY_viewOf pq (nI NT, nI NO, nI NA, nI b, nI w, nI L, bs, pa, st, wo, wk, wp, q, ow, ob, kd, op, rs) (nl_en t) (nI x) := by
  have hL := nl_L80 I
  obtain ⟨⟨z1, z2, z3, z4, z5, z6, z7⟩, T, S, LV, HI, EN, OB, LR, QU, WA⟩ := I
  exact nl_Yvw (by omega) T EN hL ht (by omega) h
theorem nl_Yf (I : nl_I NT NO NA b L ac m QS lm pa st ln lr wo wk q bs se rd wr ve hi ow ob kd op rs) {t x : Nat} {k mk : Int32} (ht : t < b) (hx : x < NO) (BK : nl_BK (rd x) (wr x) (ln t) k mk) (pq : Int32 → Prop) (h1 : ∀ h, h < b → bt mk h = true → (∀ g, g < h → bt mk g = false) → pq (nI h)) (h0 : mk = 0 → pq (-1)) : wpY_firstBlocker pq (nI NT, nI NO, nI NA, nI b, nI w, nI L, bs, pa, st, wo, wk, wp, q, ow, ob, kd, op, rs) (nI t) (nI x) k := by
  have hL := nl_L80 I
  have WL := fun (h : Nat) => nl_wr_lv I hx (h := h)
  have RL := fun (h : Nat) => nl_rd_lv I hx (h := h)
  obtain ⟨⟨z1, z2, z3, z4, z5, z6, z7⟩, T, S, LV, HI, EN, OB, LR, QU, WA⟩ := I
  refine nl_Yfb (by omega) T EN hL ht (OB x hx).1 (OB x hx).2.1 (fun h z => (WL h z).2) (fun h z => (RL h z).2) BK h1 (fun hall => h0 (nl_m0.mpr (fun a => ?_)))
  by_cases c : a < b
  · exact hall a c
  · have k1 : bt (wr x) a = false := nl_nt (fun z => c (WL a z).1)
    have k2 : bt (rd x) a = false := nl_nt (fun z => c (RL a z).1)
    rw [BK a, k1, k2, Bool.and_false]; rfl
theorem nl_BK_u {r w l k mk mk' : Int32} (h : nl_BK r w l k mk) (h' : nl_BK r w l k mk') : mk = mk' := b_ext (fun i _ => (h i).trans (h' i).symm)
theorem nl_BK_e (r w l k : Int32) : ∃ mk, nl_BK r w l k mk := by
  by_cases c : k = 0
  · exact ⟨w &&& (l ^^^ (-1)), fun a => by rw [nl_an, decide_eq_false (fun z => z c), Bool.false_and, Bool.or_false]⟩
  · exact ⟨(w ||| r) &&& (l ^^^ (-1)), fun a => by rw [nl_an, b_or, decide_eq_true c, Bool.true_and]⟩
theorem nl_BK_0 {r w l k : Int32} (h : nl_BK r w l k 0) : (∀ a, bt w a = true → bt l a = true) ∧ (¬ k = 0 → ∀ a, bt w a = true ∨ bt r a = true → bt l a = true) := by
  constructor
  · intro a ha
    have e := h a
    rw [b_0, ha, Bool.true_or, Bool.true_and] at e
    cases c : bt l a
    · rw [c] at e; exact nomatch e
    · rfl
  · intro hk a ha
    have e := h a
    have e2 : (bt w a || (decide (¬ k = 0) && bt r a)) = true := by
      rw [decide_eq_true hk, Bool.true_and, Bool.or_eq_true]; exact ha
    rw [b_0, e2, Bool.true_and] at e
    cases c : bt l a
    · rw [c] at e; exact nomatch e
    · rfl
section
variable {post : Int32 → SX → Prop} {n d kp i t x : Nat} {k sv : Int32}
theorem nl_Xwk_r (hin : i < n) (hn : n ≤ 16) (eq : q i = nI t) (ht : t < 16) (ewo : wo t = nI x) (hx : x < 8) (ek : wk t = 0) (hL : L < 80) (hm : ∀ mk, nl_BK (rd x) (wr x) (ln t) 0 mk → mk = 0) (hv : ∀ pq : Int32 → Prop, pq sv → wpX_visible pq (nI NT, nI NO, nI NA, nI b, lm, nI w, nI L, nI ac, pa, st, ln, lr, wo, wk, wp, q, bs, se, rd, wr, ve, hi) (nI t) (nI x))
    (h : wX_wake_9 post (nI n) (d + 1) (nI kp) (nI (i + 1)) (nI NT) (nI NO) (nI NA) (nI b) lm (nI w) (nI (L + 1)) (nI (ac + 1)) pa (upd st t 0) ln (upd lr t sv) wo wk wp q bs se (upd rd x (rd x ||| ((1 : Int32) <<< (nI t &&& 31)))) wr ve (upd (upd (upd (upd (upd hi (L * 5 + 0) (nI t)) (L * 5 + 1) (nI x)) (L * 5 + 2) 0) (L * 5 + 3) (wp t)) (L * 5 + 4) sv)) : wX_wake_9 post (nI n) (d + 1 + 1) (nI kp) (nI i) (nI NT) (nI NO) (nI NA) (nI b) lm (nI w) (nI L) (nI ac) pa st ln lr wo wk wp q bs se rd wr ve hi := by
  have et : (nI t).toNatClampNeg = t := nI_clamp (by omega)
  have v : vp_in (nI t) 16 := vp_in_nI ht (by omega)
  refine br_f (nI_ge hin (by omega)) ⟨vp_in_nI (by omega) (by omega), nm_r ((congrArg q (nI_clamp (by omega))).trans eq) ⟨v, nm_r ((congrArg wo et).trans ewo) ⟨v, nm_r ((congrArg wk et).trans ek) (nl_Xbk ht hx (fun mk hmk => br_t (hm mk hmk) ⟨v, ?_⟩))⟩⟩⟩
  rw [et]
  exact nl_Xg_r ht hx hL hv (nm_r (nI_1 i) h)
theorem nl_Xwk_w (hin : i < n) (hn : n ≤ 16) (eq : q i = nI t) (ht : t < 16) (ewo : wo t = nI x) (hx : x < 8) (ek : wk t = k) (hk : k = 1 ∨ k = 2) (hL : L < 80) (hm : ∀ mk, nl_BK (rd x) (wr x) (ln t) k mk → mk = 0) (hv : ∀ pq : Int32 → Prop, pq sv → wpX_visible pq (nI NT, nI NO, nI NA, nI b, lm, nI w, nI L, nI ac, pa, st, ln, lr, wo, wk, wp, q, bs, se, rd, wr, ve, hi) (nI t) (nI x))
    (h : wX_wake_9 post (nI n) (d + 1) (nI kp) (nI (i + 1)) (nI NT) (nI NO) (nI NA) (nI b) lm (nI w) (nI (L + 1)) (nI (ac + 1)) pa (upd st t 0) ln (upd lr t sv) wo wk wp q bs se rd (upd wr x (wr x ||| ((1 : Int32) <<< (nI t &&& 31)))) (upd ve (x * 16 + t) (nl_s1 k (wp t) sv)) (upd (upd (upd (upd (upd hi (L * 5 + 0) (nI t)) (L * 5 + 1) (nI x)) (L * 5 + 2) k) (L * 5 + 3) (wp t)) (L * 5 + 4) sv)) : wX_wake_9 post (nI n) (d + 1 + 1) (nI kp) (nI i) (nI NT) (nI NO) (nI NA) (nI b) lm (nI w) (nI L) (nI ac) pa st ln lr wo wk wp q bs se rd wr ve hi := by
  have et : (nI t).toNatClampNeg = t := nI_clamp (by omega)
  have v : vp_in (nI t) 16 := vp_in_nI ht (by omega)
  refine br_f (nI_ge hin (by omega)) ⟨vp_in_nI (by omega) (by omega), nm_r ((congrArg q (nI_clamp (by omega))).trans eq) ⟨v, nm_r ((congrArg wo et).trans ewo) ⟨v, nm_r ((congrArg wk et).trans ek) (nl_Xbk ht hx (fun mk hmk => br_t (hm mk hmk) ⟨v, ?_⟩))⟩⟩⟩
  rw [et]
  exact nl_Xg_w ht hx hL hk hv (nm_r (nI_1 i) h)
theorem nl_Xwk_k (hin : i < n) (hn : n ≤ 16) (hk : kp ≤ i) (eq : q i = nI t) (ht : t < 16) (ewo : wo t = nI x) (hx : x < 8) (ek : wk t = k) (hm : ∀ mk, nl_BK (rd x) (wr x) (ln t) k mk → ¬ mk = 0)
    (h : wX_wake_9 post (nI n) (d + 1) (nI (kp + 1)) (nI (i + 1)) (nI NT) (nI NO) (nI NA) (nI b) lm (nI w) (nI L) (nI ac) pa st ln lr wo wk wp (upd q kp (nI t)) bs se rd wr ve hi) : wX_wake_9 post (nI n) (d + 1 + 1) (nI kp) (nI i) (nI NT) (nI NO) (nI NA) (nI b) lm (nI w) (nI L) (nI ac) pa st ln lr wo wk wp q bs se rd wr ve hi := by
  have et : (nI t).toNatClampNeg = t := nI_clamp (by omega)
  have v : vp_in (nI t) 16 := vp_in_nI ht (by omega)
  refine br_f (nI_ge hin (by omega)) ⟨vp_in_nI (by omega) (by omega), nm_r ((congrArg q (nI_clamp (by omega))).trans eq) ⟨v, nm_r ((congrArg wo et).trans ewo) ⟨v, nm_r ((congrArg wk et).trans ek) (nl_Xbk ht hx (fun mk hmk => br_f (hm mk hmk) ⟨vp_in_nI (by omega) (by omega), ?_⟩))⟩⟩⟩
  rw [nI_clamp (by omega)]
  exact nm_e (nm_r (nI_1 kp) (nm_r (nI_1 i) h))
end
section
variable {post : Int32 → SY → Prop} {n d kp i t x : Nat} {k sv : Int32}
theorem nl_Ywk_g (hin : i < n) (hn : n ≤ 16) (eq : q i = nI t) (ht : t < 16) (ewo : wo t = nI x) (ek : wk t = k) (hL : L < 80) (hf : ∀ pq : Int32 → Prop, pq (-1) → wpY_firstBlocker pq (nI NT, nI NO, nI NA, nI b, nI w, nI L, bs, pa, st, wo, wk, wp, q, ow, ob, kd, op, rs) (nI t) (nI x) k) (hv : ∀ pq : Int32 → Prop, pq sv → wpY_viewOf pq (nI NT, nI NO, nI NA, nI b, nI w, nI L, bs, pa, st, wo, wk, wp, q, ow, ob, kd, op, rs) (nI t) (nI x))
    (h : wY_wake_9 post (nI n) (d + 1) (nI kp) (nI (i + 1)) (nI NT) (nI NO) (nI NA) (nI b) (nI w) (nI (L + 1)) bs pa (upd st t 0) wo wk wp q (upd ow L (nI t)) (upd ob L (nI x)) (upd kd L k) (upd op L (wp t)) (upd rs L sv)) : wY_wake_9 post (nI n) (d + 1 + 1) (nI kp) (nI i) (nI NT) (nI NO) (nI NA) (nI b) (nI w) (nI L) bs pa st wo wk wp q ow ob kd op rs := by
  have et : (nI t).toNatClampNeg = t := nI_clamp (by omega)
  have v : vp_in (nI t) 16 := vp_in_nI ht (by omega)
  refine br_f (nI_ge hin (by omega)) ⟨vp_in_nI (by omega) (by omega), nm_r ((congrArg q (nI_clamp (by omega))).trans eq) ⟨v, v, ?_⟩⟩
  rw [et, ewo, ek]
  exact hf _ (br_t rfl ⟨v, v, v, nl_Yg ht hL hv (nm_r (nI_1 i) h)⟩)
theorem nl_Ywk_k (hin : i < n) (hn : n ≤ 16) (hk : kp ≤ i) (eq : q i = nI t) (ht : t < 16) (ewo : wo t = nI x) (ek : wk t = k) (hf : ∀ pq : Int32 → Prop, (∀ h, h < 16 → pq (nI h)) → wpY_firstBlocker pq (nI NT, nI NO, nI NA, nI b, nI w, nI L, bs, pa, st, wo, wk, wp, q, ow, ob, kd, op, rs) (nI t) (nI x) k)
    (h : wY_wake_9 post (nI n) (d + 1) (nI (kp + 1)) (nI (i + 1)) (nI NT) (nI NO) (nI NA) (nI b) (nI w) (nI L) bs pa st wo wk wp (upd q kp (nI t)) ow ob kd op rs) : wY_wake_9 post (nI n) (d + 1 + 1) (nI kp) (nI i) (nI NT) (nI NO) (nI NA) (nI b) (nI w) (nI L) bs pa st wo wk wp q ow ob kd op rs := by
  have et : (nI t).toNatClampNeg = t := nI_clamp (by omega)
  have v : vp_in (nI t) 16 := vp_in_nI ht (by omega)
  refine br_f (nI_ge hin (by omega)) ⟨vp_in_nI (by omega) (by omega), nm_r ((congrArg q (nI_clamp (by omega))).trans eq) ⟨v, v, ?_⟩⟩
  rw [et, ewo, ek]
  refine hf _ (fun g hg => br_f (nl_ne1 (by omega)) ⟨vp_in_nI (by omega) (by omega), ?_⟩)
  rw [nI_clamp (show kp < 2 ^ 31 by omega)]
  exact nm_e (nm_r (nI_1 kp) (nm_r (nI_1 i) h))
end
end
theorem nl_wk : ∀ (d i kp n NT NO NA b w L ac : Nat) (lm : Int32) (pa st ln lr wo wk wp q bs se rd wr ve hi ow ob kd op rs : Nat → Int32), i + d = n → kp ≤ i → n ≤ 16 → nl_I NT NO NA b L ac (kp + d) (fun j => j < kp ∨ (i ≤ j ∧ j < n)) lm pa st ln lr wo wk q bs se rd wr ve hi ow ob kd op rs →
    ∃ (r : Int32) (u : SX) (v : SY), nl_Rel u v ∧ (∀ post : Int32 → SX → Prop, post r u → wX_wake_9 post (nI n) (d + 1) (nI kp) (nI i) (nI NT) (nI NO) (nI NA) (nI b) lm (nI w) (nI L) (nI ac) pa st ln lr wo wk wp q bs se rd wr ve hi) ∧ (∀ post : Int32 → SY → Prop, post r v → wY_wake_9 post (nI n) (d + 1) (nI kp) (nI i) (nI NT) (nI NO) (nI NA) (nI b) (nI w) (nI L) bs pa st wo wk wp q ow ob kd op rs) := by
  intro d
  induction d with
  | zero =>
    intro i kp n NT NO NA b w L ac lm pa st ln lr wo wk wp q bs se rd wr ve hi ow ob kd op rs hd hk hn I
    refine ⟨nI n - nI kp, (nI NT, nI NO, nI NA, nI b, lm, nI kp, nI L, nI ac, pa, st, ln, lr, wo, wk, wp, q, bs, se, rd, wr, ve, hi), (nI NT, nI NO, nI NA, nI b, nI kp, nI L, bs, pa, st, wo, wk, wp, q, ow, ob, kd, op, rs), ?_, ?_, ?_⟩
    · exact nl_in NT NO NA b kp L ac lm pa st ln lr wo wk wp q bs se rd wr ve hi ow ob kd op rs (nl_sub I (Nat.le_refl _) (fun j hj => Or.inl hj))
    · exact fun post hp => br_t (nI_le (by omega) (by omega)) hp
    · exact fun post hp => br_t (nI_le (by omega) (by omega)) hp
  | succ d ih =>
    intro i kp n NT NO NA b w L ac lm pa st ln lr wo wk wp q bs se rd wr ve hi ow ob kd op rs hd hk hn I
    have I0 := I
    obtain ⟨⟨z1, z2, z3, z4, z5, z6, z7⟩, T, S, LV, HI, EN, OB, LR, QU, WA⟩ := I0
    obtain ⟨t, ht, eq, est⟩ := QU.1 i (Or.inr ⟨Nat.le_refl i, by omega⟩)
    obtain ⟨⟨x, hx, ewo⟩, hwk⟩ := WA t ht est
    have hl : nl_lv st t = true := nl_lv_i.mpr (Or.inr est)
    obtain ⟨mk, BK⟩ := nl_BK_e (rd x) (wr x) (ln t) (wk t)
    have qi : ∀ j, (j < kp ∨ (i + 1 ≤ j ∧ j < n)) → (j < kp ∨ (i ≤ j ∧ j < n)) ∧ ¬ q j = nI t := fun j hj => by
      refine ⟨hj.elim Or.inl (fun z => Or.inr ⟨by omega, z.2⟩), fun z => ?_⟩
      have := QU.2 j i (hj.elim Or.inl (fun z => Or.inr ⟨by omega, z.2⟩)) (Or.inr ⟨Nat.le_refl i, by omega⟩) (z.trans eq.symm)
      omega
    by_cases c : mk = 0
    · subst c
      have k0 := nl_BK_0 BK
      have hL : L < 80 := by omega
      by_cases ck : wk t = 0
      · rw [ck] at BK
        have I' := nl_grant I (x := x) (m' := kp + d) (QS' := fun j => j < kp ∨ (i + 1 ≤ j ∧ j < n)) ht hl 0 (wp t) (nl_V (nl_E pa st ow) kd ob op ln L (bs x) (nI x) (some t)) (Or.inl rfl) qi (by omega) (nl_g_rd I ht hx hl (wp t) k0.1)
        obtain ⟨r, u, v, R, hX, hY⟩ := ih (i + 1) kp n NT NO NA b w (L + 1) (ac + 1) lm pa _ ln _ wo wk wp q bs se _ wr ve _ _ _ _ _ _ (by omega) (by omega) hn I'
        refine ⟨r, u, v, R, fun post hp => ?_, fun post hp => ?_⟩
        · exact nl_Xwk_r (by omega) hn eq (by omega) ewo (by omega) ck hL (fun mk' h => nl_BK_u h BK) (nl_Xv I hx (t := some t) (fun a z => by cases z; exact ht)) (hX post hp)
        · exact nl_Ywk_g (by omega) hn eq (by omega) ewo ck hL (fun pq hq => nl_Yf I ht hx BK pq (fun h _ z _ => by rw [b_0] at z; exact nomatch z) (fun _ => hq)) (nl_Yv I hx (t := some t) (fun a z => by cases z; exact ht)) (hY post hp)
      · have hk2 : wk t = 1 ∨ wk t = 2 := hwk.resolve_left ck
        have I' := nl_grant I (x := x) (m' := kp + d) (QS' := fun j => j < kp ∨ (i + 1 ≤ j ∧ j < n)) ht hl (wk t) (wp t) (nl_V (nl_E pa st ow) kd ob op ln L (bs x) (nI x) (some t)) hwk qi (by omega) (nl_g_wr I ht hx hl (wk t) (wp t) _ hk2 (k0.2 ck) rfl)
        obtain ⟨r, u, v, R, hX, hY⟩ := ih (i + 1) kp n NT NO NA b w (L + 1) (ac + 1) lm pa _ ln _ wo wk wp q bs se rd _ _ _ _ _ _ _ _ (by omega) (by omega) hn I'
        refine ⟨r, u, v, R, fun post hp => ?_, fun post hp => ?_⟩
        · exact nl_Xwk_w (by omega) hn eq (by omega) ewo (by omega) rfl hk2 hL (fun mk' h => nl_BK_u h BK) (nl_Xv I hx (t := some t) (fun a z => by cases z; exact ht)) (hX post hp)
        · exact nl_Ywk_g (by omega) hn eq (by omega) ewo rfl hL (fun pq hq => nl_Yf I ht hx BK pq (fun h _ z _ => by rw [b_0] at z; exact nomatch z) (fun _ => hq)) (nl_Yv I hx (t := some t) (fun a z => by cases z; exact ht)) (hY post hp)
    · have I' : nl_I NT NO NA b L ac (kp + 1 + d) (fun j => j < kp + 1 ∨ (i + 1 ≤ j ∧ j < n)) lm pa st ln lr wo wk (upd q kp (nI t)) bs se rd wr ve hi ow ob kd op rs := by
        refine ⟨⟨z1, z2, z3, z4, z5, by omega, z7⟩, T, S, LV, HI, EN, OB, LR, ⟨fun j hj => ?_, fun j1 j2 h1 h2 e => ?_⟩, WA⟩
        · by_cases cj : j = kp
          · rw [cj, pk_us]; exact ⟨t, ht, rfl, est⟩
          · rw [pk_un cj]
            exact QU.1 j (hj.elim (fun z => Or.inl (by omega)) (fun z => Or.inr ⟨by omega, z.2⟩))
        · by_cases c1 : j1 = kp
          · by_cases c2 : j2 = kp
            · omega
            · rw [c1, pk_us, pk_un c2] at e
              exact absurd e.symm (qi j2 (h2.elim (fun z => Or.inl (by omega)) Or.inr)).2
          · by_cases c2 : j2 = kp
            · rw [c2, pk_us, pk_un c1] at e
              exact absurd e (qi j1 (h1.elim (fun z => Or.inl (by omega)) Or.inr)).2
            · rw [pk_un c1, pk_un c2] at e
              exact QU.2 j1 j2 (qi j1 (h1.elim (fun z => Or.inl (by omega)) Or.inr)).1 (qi j2 (h2.elim (fun z => Or.inl (by omega)) Or.inr)).1 e
      obtain ⟨r, u, v, R, hX, hY⟩ := ih (i + 1) (kp + 1) n NT NO NA b w L ac lm pa st ln lr wo wk wp _ bs se rd wr ve hi ow ob kd op rs (by omega) (by omega) hn I'
      refine ⟨r, u, v, R, fun post hp => ?_, fun post hp => ?_⟩
      · exact nl_Xwk_k (by omega) hn hk eq (by omega) ewo (by omega) rfl (fun mk' h => by rw [nl_BK_u h BK]; exact c) (hX post hp)
      · exact nl_Ywk_k (by omega) hn hk eq (by omega) ewo rfl (fun pq hq => nl_Yf I ht hx BK pq (fun h hb _ _ => hq h (by omega)) (fun z => absurd z c)) (hY post hp)
theorem nl_wake (NT NO NA b w L ac : Nat) (lm : Int32) (pa st ln lr wo wk wp q bs se rd wr ve hi ow ob kd op rs : Nat → Int32) (hw : w ≤ 16) (I : nl_I NT NO NA b L ac w (fun j => j < w) lm pa st ln lr wo wk q bs se rd wr ve hi ow ob kd op rs) :
    ∃ (r : Int32) (u : SX) (v : SY), nl_Rel u v ∧ (∀ post : Int32 → SX → Prop, post r u → wpX_wake post (nI NT, nI NO, nI NA, nI b, lm, nI w, nI L, nI ac, pa, st, ln, lr, wo, wk, wp, q, bs, se, rd, wr, ve, hi)) ∧ (∀ post : Int32 → SY → Prop, post r v → wpY_wake post (nI NT, nI NO, nI NA, nI b, nI w, nI L, bs, pa, st, wo, wk, wp, q, ow, ob, kd, op, rs)) := by
  obtain ⟨r, u, v, R, hX, hY⟩ := nl_wk w 0 0 w NT NO NA b w L ac lm pa st ln lr wo wk wp q bs se rd wr ve hi ow ob kd op rs (by omega) (by omega) hw (nl_sub I (by omega) (fun j hj => hj.elim (fun z => absurd z (Nat.not_lt_zero _)) (fun z => z.2)))
  exact ⟨r, u, v, R, fun post hp => ⟨w + 1, hX post hp⟩, fun post hp => ⟨w + 1, hY post hp⟩⟩
theorem nl_w16 {NT NO NA b w L ac m : Nat} {lm : Int32} {pa st ln lr wo wk q bs se rd wr ve hi ow ob kd op rs : Nat → Int32} (I : nl_I NT NO NA b L ac m (fun j => j < w) lm pa st ln lr wo wk q bs se rd wr ve hi ow ob kd op rs) : w ≤ b ∧ (∀ t, t < b → st t = 0 → w < b) := by
  obtain ⟨⟨z1, z2, z3, z4, z5, z6, z7⟩, T, S, LV, HI, EN, OB, LR, QU, WA⟩ := I
  have key : ∀ j, j < w → (q j).toNatClampNeg < b ∧ q j = nI (q j).toNatClampNeg ∧ st (q j).toNatClampNeg = 1 := fun j hj => by
    obtain ⟨t, h1, h2, h3⟩ := QU.1 j hj
    rw [h2, nI_clamp (by omega)]
    exact ⟨h1, rfl, h3⟩
  have inj : ∀ i j, i < w → j < w → (q i).toNatClampNeg = (q j).toNatClampNeg → i = j := fun i j h1 h2 e =>
    QU.2 i j h1 h2 (by rw [(key i h1).2.1, (key j h2).2.1, e])
  refine ⟨nl_pig b w (fun j => (q j).toNatClampNeg) (fun j hj => (key j hj).1) inj, fun t ht hs => ?_⟩
  have no : ∀ j, j < w → ¬ (q j).toNatClampNeg = t := fun j hj z => by
    have := (key j hj).2.2
    rw [z, hs] at this; exact absurd this (by decide)
  have := nl_pig b (w + 1) (fun j => if j = w then t else (q j).toNatClampNeg) (fun j hj => by
      show (if j = w then t else (q j).toNatClampNeg) < b
      by_cases c : j = w
      · rw [if_pos c]; exact ht
      · rw [if_neg c]; exact (key j (by omega)).1) (fun i j hi hj => by
      show (if i = w then t else (q i).toNatClampNeg) = (if j = w then t else (q j).toNatClampNeg) → i = j
      by_cases c : i = w
      · by_cases d : j = w
        · intro _; omega
        · rw [if_pos c, if_neg d]; intro z; exact absurd z.symm (no j (by omega))
      · by_cases d : j = w
        · rw [if_neg c, if_pos d]; intro z; exact absurd z (no i (by omega))
        · rw [if_neg c, if_neg d]; intro z; exact inj i j (by omega) (by omega) z)
  omega
end
section
theorem nl_ix (v : Int32) {n : Nat} (hn : n < 2 ^ 31) : (v < 0 ∨ nI n ≤ v) ∨ ∃ j, j < n ∧ v = nI j := by
  rcases pk_ix v hn with h | h | h
  · exact Or.inl (Or.inl h)
  · exact Or.inl (Or.inr h)
  · exact Or.inr h
section
variable {NT NO NA b w L ac m : Nat} {QS : Nat → Prop} {lm : Int32} {pa st ln lr wo wk wp q bs se rd wr ve hi ow ob kd op rs : Nat → Int32}
theorem nl_b16 (I : nl_I NT NO NA b L ac m QS lm pa st ln lr wo wk q bs se rd wr ve hi ow ob kd op rs) : b ≤ 16 ∧ NO ≤ 8 := by
  obtain ⟨⟨z1, z2, z3, z4, z5, z6, z7⟩, _⟩ := I
  omega
theorem nl_q_state (I : nl_I NT NO NA b L ac m QS lm pa st ln lr wo wk q bs se rd wr ve hi ow ob kd op rs) (v1 : Int32) : ∃ r : Int32, (∀ post : Int32 → Prop, post r → wpX_state post (nI NT, nI NO, nI NA, nI b, lm, nI w, nI L, nI ac, pa, st, ln, lr, wo, wk, wp, q, bs, se, rd, wr, ve, hi) v1) ∧ (∀ post : Int32 → Prop, post r → wpY_state post (nI NT, nI NO, nI NA, nI b, nI w, nI L, bs, pa, st, wo, wk, wp, q, ow, ob, kd, op, rs) v1) := by
  unfold wpX_state wpY_state
  obtain ⟨hb, hN⟩ := nl_b16 I
  rcases nl_ix v1 (n := b) (by omega) with h | ⟨t, ht, rfl⟩
  · exact ⟨-2, fun post hp => nl_Xk0 h (br_t rfl hp), fun post hp => nl_Yk0 h (br_t rfl hp)⟩
  · have v : vp_in (nI t) 16 := vp_in_nI (by omega) (by omega)
    exact ⟨_, fun post hp => nl_Xk1 ht hb (br_f (by decide) ⟨v, hp⟩), fun post hp => nl_Yk1 ht hb (br_f (by decide) ⟨v, hp⟩)⟩
theorem nl_q_parent (I : nl_I NT NO NA b L ac m QS lm pa st ln lr wo wk q bs se rd wr ve hi ow ob kd op rs) (v1 : Int32) : ∃ r : Int32, (∀ post : Int32 → Prop, post r → wpX_parent post (nI NT, nI NO, nI NA, nI b, lm, nI w, nI L, nI ac, pa, st, ln, lr, wo, wk, wp, q, bs, se, rd, wr, ve, hi) v1) ∧ (∀ post : Int32 → Prop, post r → wpY_parent post (nI NT, nI NO, nI NA, nI b, nI w, nI L, bs, pa, st, wo, wk, wp, q, ow, ob, kd, op, rs) v1) := by
  unfold wpX_parent wpY_parent
  obtain ⟨hb, hN⟩ := nl_b16 I
  rcases nl_ix v1 (n := b) (by omega) with h | ⟨t, ht, rfl⟩
  · exact ⟨-2, fun post hp => nl_Xk0 h (br_t rfl hp), fun post hp => nl_Yk0 h (br_t rfl hp)⟩
  · have v : vp_in (nI t) 16 := vp_in_nI (by omega) (by omega)
    exact ⟨_, fun post hp => nl_Xk1 ht hb (br_f (by decide) ⟨v, hp⟩), fun post hp => nl_Yk1 ht hb (br_f (by decide) ⟨v, hp⟩)⟩
theorem nl_q_base (I : nl_I NT NO NA b L ac m QS lm pa st ln lr wo wk q bs se rd wr ve hi ow ob kd op rs) (v1 : Int32) : ∃ r : Int32, (∀ post : Int32 → Prop, post r → wpX_base post (nI NT, nI NO, nI NA, nI b, lm, nI w, nI L, nI ac, pa, st, ln, lr, wo, wk, wp, q, bs, se, rd, wr, ve, hi) v1) ∧ (∀ post : Int32 → Prop, post r → wpY_base post (nI NT, nI NO, nI NA, nI b, nI w, nI L, bs, pa, st, wo, wk, wp, q, ow, ob, kd, op, rs) v1) := by
  unfold wpX_base wpY_base
  obtain ⟨hb, hN⟩ := nl_b16 I
  rcases nl_ix v1 (n := NO) (by omega) with h | ⟨t, ht, rfl⟩
  · exact ⟨0, fun post hp => nl_Xo0 h (br_t rfl hp), fun post hp => nl_Yo0 h (br_t rfl hp)⟩
  · have v : vp_in (nI t) 8 := vp_in_nI (by omega) (by omega)
    exact ⟨_, fun post hp => nl_Xo1 ht hN (br_f (by decide) ⟨v, hp⟩), fun post hp => nl_Yo1 ht hN (br_f (by decide) ⟨v, hp⟩)⟩
theorem nl_q_historyLength (I : nl_I NT NO NA b L ac m QS lm pa st ln lr wo wk q bs se rd wr ve hi ow ob kd op rs) : ∃ r : Int32, (∀ post : Int32 → Prop, post r → wpX_historyLength post (nI NT, nI NO, nI NA, nI b, lm, nI w, nI L, nI ac, pa, st, ln, lr, wo, wk, wp, q, bs, se, rd, wr, ve, hi)) ∧ (∀ post : Int32 → Prop, post r → wpY_historyLength post (nI NT, nI NO, nI NA, nI b, nI w, nI L, bs, pa, st, wo, wk, wp, q, ow, ob, kd, op, rs)) :=
  ⟨nI L, fun post hp => hp, fun post hp => hp⟩
theorem nl_q_waiter (I : nl_I NT NO NA b L ac m QS lm pa st ln lr wo wk q bs se rd wr ve hi ow ob kd op rs) (hw : w ≤ 16) (v1 : Int32) : ∃ r : Int32, (∀ post : Int32 → Prop, post r → wpX_waiter post (nI NT, nI NO, nI NA, nI b, lm, nI w, nI L, nI ac, pa, st, ln, lr, wo, wk, wp, q, bs, se, rd, wr, ve, hi) v1) ∧ (∀ post : Int32 → Prop, post r → wpY_waiter post (nI NT, nI NO, nI NA, nI b, nI w, nI L, bs, pa, st, wo, wk, wp, q, ow, ob, kd, op, rs) v1) := by
  by_cases h0 : v1 < 0
  · exact ⟨-1, fun post hp => br_t h0 hp, fun post hp => br_t h0 hp⟩
  · by_cases h1 : nI w ≤ v1
    · exact ⟨-1, fun post hp => br_f h0 (br_t h1 hp), fun post hp => br_f h0 (br_t h1 hp)⟩
    · rcases nl_ix v1 (n := w) (by omega) with h | ⟨t, ht, rfl⟩
      · exact absurd h (fun z => z.elim h0 h1)
      · have v : vp_in (nI t) 16 := vp_in_nI (by omega) (by omega)
        exact ⟨_, fun post hp => br_f h0 (br_f h1 ⟨v, hp⟩), fun post hp => br_f h0 (br_f h1 ⟨v, hp⟩)⟩
theorem nl_q_pending (I : nl_I NT NO NA b L ac m QS lm pa st ln lr wo wk q bs se rd wr ve hi ow ob kd op rs) (v1 v2 : Int32) : ∃ r : Int32, (∀ post : Int32 → Prop, post r → wpX_pending post (nI NT, nI NO, nI NA, nI b, lm, nI w, nI L, nI ac, pa, st, ln, lr, wo, wk, wp, q, bs, se, rd, wr, ve, hi) v1 v2) ∧ (∀ post : Int32 → Prop, post r → wpY_pending post (nI NT, nI NO, nI NA, nI b, nI w, nI L, bs, pa, st, wo, wk, wp, q, ow, ob, kd, op, rs) v1 v2) := by
  unfold wpX_pending wpY_pending
  obtain ⟨hb, hN⟩ := nl_b16 I
  rcases nl_ix v1 (n := b) (by omega) with h | ⟨t, ht, rfl⟩
  · exact ⟨-1, fun post hp => nl_Xw0 h (br_t rfl hp), fun post hp => nl_Yk0 h (br_t rfl hp)⟩
  · have v : vp_in (nI t) 16 := vp_in_nI (by omega) (by omega)
    have et : (nI t).toNatClampNeg = t := nI_clamp (by omega)
    by_cases hs : st t = 1
    · have hs' : st (nI t).toNatClampNeg = 1 := by rw [et]; exact hs
      by_cases f1 : v2 = 1
      · exact ⟨_, fun post hp => nl_Xw ht hb (fun _ => br_f (by decide) (br_t f1 ⟨v, hp⟩)) (fun z => absurd hs z), fun post hp => nl_Yk1 ht hb (br_f (by decide) ⟨v, br_t hs' (br_t f1 ⟨v, hp⟩)⟩)⟩
      · by_cases f2 : v2 = 2
        · exact ⟨_, fun post hp => nl_Xw ht hb (fun _ => br_f (by decide) (br_f f1 (br_t f2 ⟨v, hp⟩))) (fun z => absurd hs z), fun post hp => nl_Yk1 ht hb (br_f (by decide) ⟨v, br_t hs' (br_f f1 (br_t f2 ⟨v, hp⟩))⟩)⟩
        · by_cases f3 : v2 = 3
          · exact ⟨_, fun post hp => nl_Xw ht hb (fun _ => br_f (by decide) (br_f f1 (br_f f2 (br_t f3 ⟨v, hp⟩)))) (fun z => absurd hs z), fun post hp => nl_Yk1 ht hb (br_f (by decide) ⟨v, br_t hs' (br_f f1 (br_f f2 (br_t f3 ⟨v, hp⟩)))⟩)⟩
          · exact ⟨-1, fun post hp => nl_Xw ht hb (fun _ => br_f (by decide) (br_f f1 (br_f f2 (br_f f3 hp)))) (fun z => absurd hs z), fun post hp => nl_Yk1 ht hb (br_f (by decide) ⟨v, br_t hs' (br_f f1 (br_f f2 (br_f f3 hp)))⟩)⟩
    · have hs' : ¬ st (nI t).toNatClampNeg = 1 := by rw [et]; exact hs
      exact ⟨-1, fun post hp => nl_Xw ht hb (fun z => absurd z hs) (fun _ => br_t rfl hp), fun post hp => nl_Yk1 ht hb (br_f (by decide) ⟨v, br_f hs' hp⟩)⟩
theorem nl_Yrs_l (hL : L ≤ 80) {t : Int32} {post : Int32 → Prop} (h : post (nl_lr ow kd rs t L)) : ∀ d i, i + d = L → wY_result_14 post t (nI NT) (nI NO) (nI NA) (nI b) (nI w) (nI L) bs pa st wo wk wp q ow ob kd op rs (d + 1) (nl_lr ow kd rs t i) (nI i) := by
  intro d
  induction d with
  | zero =>
    intro i hd
    have e : i = L := by omega
    subst e
    exact br_t (nI_le (by omega) (by omega)) h
  | succ d ih =>
    intro i hd
    have v : vp_in (nI i) 80 := vp_in_nI (by omega) (by omega)
    have k := ih (i + 1) (by omega)
    rw [nl_lr] at k
    refine br_f (nI_ge (by omega) (by omega)) ⟨v, ?_⟩
    rw [nI_clamp (by omega)]
    refine br_c (fun k3 => nm_r (nI_1 i) ?_) (fun k3 => ⟨v, br_c (fun ko => ⟨v, nm_e (nm_r (nI_1 i) ?_)⟩) (fun ko => nm_r (nI_1 i) ?_)⟩)
    · rw [if_neg (fun z => z.1 k3)] at k; exact k
    · rw [if_pos ⟨k3, ko⟩] at k; exact k
    · rw [if_neg (fun z => ko z.2)] at k; exact k
theorem nl_q_result (I : nl_I NT NO NA b L ac m QS lm pa st ln lr wo wk q bs se rd wr ve hi ow ob kd op rs) (v1 : Int32) : ∃ r : Int32, (∀ post : Int32 → Prop, post r → wpX_result post (nI NT, nI NO, nI NA, nI b, lm, nI w, nI L, nI ac, pa, st, ln, lr, wo, wk, wp, q, bs, se, rd, wr, ve, hi) v1) ∧ (∀ post : Int32 → Prop, post r → wpY_result post (nI NT, nI NO, nI NA, nI b, nI w, nI L, bs, pa, st, wo, wk, wp, q, ow, ob, kd, op, rs) v1) := by
  unfold wpX_result wpY_result
  obtain ⟨hb, hN⟩ := nl_b16 I
  have hL := nl_L80 I
  obtain ⟨⟨z1, z2, z3, z4, z5, z6, z7⟩, T, S, LV, HI, EN, OB, LR, QU, WA⟩ := I
  rcases nl_ix v1 (n := b) (by omega) with h | ⟨t, ht, rfl⟩
  · exact ⟨0, fun post hp => nl_Xk0 h (br_t rfl hp), fun post hp => nl_Yk0 h (br_t rfl hp)⟩
  · have v : vp_in (nI t) 16 := vp_in_nI (by omega) (by omega)
    have et : lr (nI t).toNatClampNeg = nl_lr ow kd rs (nI t) L := by rw [nI_clamp (by omega)]; exact LR t ht
    refine ⟨nl_lr ow kd rs (nI t) L, fun post hp => nl_Xk1 ht hb (br_f (by decide) ⟨v, ?_⟩), fun post hp => nl_Yk1 ht hb (br_f (by decide) ⟨L + 1, nl_Yrs_l hL hp L 0 (by omega)⟩)⟩
    rw [et]; exact hp
theorem nl_q_lock (I : nl_I NT NO NA b L ac m QS lm pa st ln lr wo wk q bs se rd wr ve hi ow ob kd op rs) (v1 v2 : Int32) : ∃ r : Int32, (∀ post : Int32 → Prop, post r → wpX_lock post (nI NT, nI NO, nI NA, nI b, lm, nI w, nI L, nI ac, pa, st, ln, lr, wo, wk, wp, q, bs, se, rd, wr, ve, hi) v1 v2) ∧ (∀ post : Int32 → Prop, post r → wpY_lock post (nI NT, nI NO, nI NA, nI b, nI w, nI L, bs, pa, st, wo, wk, wp, q, ow, ob, kd, op, rs) v1 v2) := by
  unfold wpX_lock wpY_lock
  obtain ⟨hb, hN⟩ := nl_b16 I
  have hL := nl_L80 I
  rcases nl_ix v1 (n := b) (by omega) with h | ⟨t, ht, rfl⟩
  · exact ⟨-2, fun post hp => nl_Xk0 h (br_t rfl hp), fun post hp => nl_Yk0 h (br_t rfl hp)⟩
  · rcases nl_ix v2 (n := NO) (by omega) with h | ⟨x, hx, rfl⟩
    · exact ⟨-3, fun post hp => nl_Xk1 ht hb (br_f (by decide) (nl_Xo0 h (br_t rfl hp))), fun post hp => nl_Yk1 ht hb (br_f (by decide) (nl_Yo0 h (br_t rfl hp)))⟩
    · have WL := fun (h : Nat) => nl_wr_lv I hx (h := h)
      have RL := fun (h : Nat) => nl_rd_lv I hx (h := h)
      obtain ⟨⟨z1, z2, z3, z4, z5, z6, z7⟩, T, S, LV, HI, EN, OB, LR, QU, WA⟩ := I
      have O := OB x hx
      have v : vp_in (nI x) 8 := vp_in_nI (by omega) (by omega)
      refine ⟨if bt (wr x) t = true then 2 else if bt (rd x) t = true then 1 else 0, fun post hp => nl_Xk1 ht hb (br_f (by decide) (nl_Xo1 hx hN (br_f (by decide) (nm_e ⟨v, ?_⟩)))), fun post hp => nl_Yk1 ht hb (br_f (by decide) (nl_Yo1 hx hN (br_f (by decide) (nl_Yl ht hb (fun hl => br_f (by decide) ?_) (fun hl => br_t rfl ?_)))))⟩
      · rw [nI_clamp (by omega)]
        refine br_c (fun k => ⟨v, br_c (fun k2 => ?_) (fun k2 => ?_)⟩) (fun k => ?_)
        · rw [(nl_bz (by omega)).mp k, (nl_bz (by omega)).mp k2] at hp; exact hp
        · rw [(nl_bz (by omega)).mp k, (nl_bnz (by omega)).mp k2] at hp; exact hp
        · rw [(nl_bnz (by omega)).mp k] at hp; exact hp
      · refine nl_Ylk hb T EN hL (by omega) (fun hW => ?_) (fun hW hR => ?_) (fun hW hR => ?_)
        · rw [if_pos ((O.2.1 t).mpr hW)] at hp; exact hp
        · rw [if_neg (fun z => hW ((O.2.1 t).mp z)), if_pos ((O.1 t).mpr hR)] at hp; exact hp
        · rw [if_neg (fun z => hW ((O.2.1 t).mp z)), if_neg (fun z => hR ((O.1 t).mp z))] at hp; exact hp
      · rw [if_neg (fun z => by rw [(WL t z).2] at hl; exact nomatch hl), if_neg (fun z => by rw [(RL t z).2] at hl; exact nomatch hl)] at hp
        exact hp
theorem nl_q_view (I : nl_I NT NO NA b L ac m QS lm pa st ln lr wo wk q bs se rd wr ve hi ow ob kd op rs) (v1 v2 : Int32) : ∃ r : Int32, (∀ post : Int32 → Prop, post r → wpX_view post (nI NT, nI NO, nI NA, nI b, lm, nI w, nI L, nI ac, pa, st, ln, lr, wo, wk, wp, q, bs, se, rd, wr, ve, hi) v1 v2) ∧ (∀ post : Int32 → Prop, post r → wpY_view post (nI NT, nI NO, nI NA, nI b, nI w, nI L, bs, pa, st, wo, wk, wp, q, ow, ob, kd, op, rs) v1 v2) := by
  unfold wpX_view wpY_view wX_view_25 wY_view_25
  obtain ⟨hb, hN⟩ := nl_b16 I
  have LV := I.2.2.2.1
  rcases nl_ix v2 (n := NO) (by omega) with h | ⟨x, hx, rfl⟩
  · exact ⟨0, fun post hp => nl_Xo0 h (br_t rfl hp), fun post hp => nl_Yo0 h (br_t rfl hp)⟩
  · by_cases c : v1 = -1
    · subst c
      exact ⟨_, fun post hp => nl_Xo1 hx hN (br_f (by decide) (br_t rfl (nl_Xv I hx (t := none) (fun a z => nomatch z) _ hp))), fun post hp => nl_Yo1 hx hN (br_f (by decide) (br_t rfl (nl_Yv I hx (t := none) (fun a z => nomatch z) _ hp)))⟩
    · rcases nl_ix v1 (n := b) (by omega) with h | ⟨t, ht, rfl⟩
      · exact ⟨0, fun post hp => nl_Xo1 hx hN (br_f (by decide) (br_f c (nl_Xl0 h (br_t rfl hp)))), fun post hp => nl_Yo1 hx hN (br_f (by decide) (br_f c (nl_Yl0 h (br_t rfl hp))))⟩
      · cases hl : nl_lv st t
        · exact ⟨0, fun post hp => nl_Xo1 hx hN (br_f (by decide) (br_f c (nl_Xl ht hb LV (fun z => by rw [hl] at z; exact nomatch z) (fun _ => br_t rfl hp)))), fun post hp => nl_Yo1 hx hN (br_f (by decide) (br_f c (nl_Yl ht hb (fun z => by rw [hl] at z; exact nomatch z) (fun _ => br_t rfl hp))))⟩
        · exact ⟨_, fun post hp => nl_Xo1 hx hN (br_f (by decide) (br_f c (nl_Xl ht hb LV (fun _ => br_f (by decide) (nl_Xv I hx (t := some t) (fun a z => by cases z; exact ht) _ hp)) (fun z => by rw [hl] at z; exact nomatch z)))), fun post hp => nl_Yo1 hx hN (br_f (by decide) (br_f c (nl_Yl ht hb (fun _ => br_f (by decide) (nl_Yv I hx (t := some t) (fun a z => by cases z; exact ht) _ hp)) (fun z => by rw [hl] at z; exact nomatch z))))⟩
theorem nl_q_entry (I : nl_I NT NO NA b L ac m QS lm pa st ln lr wo wk q bs se rd wr ve hi ow ob kd op rs) (v1 v2 : Int32) : ∃ r : Int32, (∀ post : Int32 → Prop, post r → wpX_entry post (nI NT, nI NO, nI NA, nI b, lm, nI w, nI L, nI ac, pa, st, ln, lr, wo, wk, wp, q, bs, se, rd, wr, ve, hi) v1 v2) ∧ (∀ post : Int32 → Prop, post r → wpY_entry post (nI NT, nI NO, nI NA, nI b, nI w, nI L, bs, pa, st, wo, wk, wp, q, ow, ob, kd, op, rs) v1 v2) := by
  have hL := nl_L80 I
  have HI := I.2.2.2.2.1
  by_cases h0 : v1 < 0
  · exact ⟨-1, fun post hp => br_t h0 hp, fun post hp => br_t h0 hp⟩
  · rcases nl_ix v1 (n := L) (by omega) with h | ⟨i, hiL, rfl⟩
    · have h1 := h.resolve_left h0
      exact ⟨-1, fun post hp => br_f h0 (br_t h1 hp), fun post hp => br_f h0 (br_f (fun z => absurd z (Int32.not_lt.mpr h1)) hp)⟩
    · have h1 : ¬ nI L ≤ nI i := nI_ge hiL (by omega)
      have h2 : nI i < nI L := nI_lt hiL (by omega)
      have v : vp_in (nI i) 80 := vp_in_nI (by omega) (by omega)
      have ei : (nI i).toNatClampNeg = i := nI_clamp (by omega)
      obtain ⟨H0, H1, H2, H3, H4⟩ := HI i hiL
      have X : ∀ f, f < 5 → ∀ post : Int32 → Prop, post (hi (i * 5 + f)) → wpX_entry post (nI NT, nI NO, nI NA, nI b, lm, nI w, nI L, nI ac, pa, st, ln, lr, wo, wk, wp, q, bs, se, rd, wr, ve, hi) (nI i) (nI f) := fun f hf post hp => by
        have e : nI i * 5 + nI f = nI (i * 5 + f) := by
          rw [← nI_add]; exact congrArg (· + nI f) (pk_mul i 5)
        refine br_f h0 (br_f h1 (br_f (nI_pos (by omega)) (br_t (nI_le (b := 4) (by omega) (by omega)) ?_)))
        rw [e, nI_clamp (by omega)]
        exact ⟨vp_in_nI (by omega) (by omega), hp⟩
      have neg : (v2 < 0 ∨ ¬ v2 ≤ 4) → ∃ r : Int32, (∀ post : Int32 → Prop, post r → wpX_entry post (nI NT, nI NO, nI NA, nI b, lm, nI w, nI L, nI ac, pa, st, ln, lr, wo, wk, wp, q, bs, se, rd, wr, ve, hi) (nI i) v2) ∧ (∀ post : Int32 → Prop, post r → wpY_entry post (nI NT, nI NO, nI NA, nI b, nI w, nI L, bs, pa, st, wo, wk, wp, q, ow, ob, kd, op, rs) (nI i) v2) := fun hn => by
        have n0 : ¬ v2 = 0 := fun z => by rw [z] at hn; exact absurd hn (by decide)
        have n1 : ¬ v2 = 1 := fun z => by rw [z] at hn; exact absurd hn (by decide)
        have n2 : ¬ v2 = 2 := fun z => by rw [z] at hn; exact absurd hn (by decide)
        have n3 : ¬ v2 = 3 := fun z => by rw [z] at hn; exact absurd hn (by decide)
        have n4 : ¬ v2 = 4 := fun z => by rw [z] at hn; exact absurd hn (by decide)
        refine ⟨-1, fun post hp => br_f h0 (br_f h1 ?_), fun post hp => br_f h0 (br_t h2 (br_f n0 (br_f n1 (br_f n2 (br_f n3 (br_f n4 hp))))))⟩
        by_cases k : v2 < 0
        · exact br_t k hp
        · exact br_f k (br_f (hn.resolve_left k) hp)
      by_cases k : v2 < 0
      · exact neg (Or.inl k)
      · by_cases k4 : v2 ≤ 4
        · obtain ⟨f, hf, rfl⟩ := nI_of2 (n := 4) (by decide) k k4
          match f, hf with
          | 0, _ => exact ⟨ow i, fun post hp => X 0 (by omega) post (by rw [H0]; exact hp), fun post hp => br_f h0 (br_t h2 (br_t rfl ⟨v, by rw [ei]; exact hp⟩))⟩
          | 1, _ => exact ⟨ob i, fun post hp => X 1 (by omega) post (by rw [H1]; exact hp), fun post hp => br_f h0 (br_t h2 (br_f (by decide) (br_t rfl ⟨v, by rw [ei]; exact hp⟩)))⟩
          | 2, _ => exact ⟨kd i, fun post hp => X 2 (by omega) post (by rw [H2]; exact hp), fun post hp => br_f h0 (br_t h2 (br_f (by decide) (br_f (by decide) (br_t rfl ⟨v, by rw [ei]; exact hp⟩))))⟩
          | 3, _ => exact ⟨op i, fun post hp => X 3 (by omega) post (by rw [H3]; exact hp), fun post hp => br_f h0 (br_t h2 (br_f (by decide) (br_f (by decide) (br_f (by decide) (br_t rfl ⟨v, by rw [ei]; exact hp⟩)))))⟩
          | 4, _ => exact ⟨rs i, fun post hp => X 4 (by omega) post (by rw [H4]; exact hp), fun post hp => br_f h0 (br_t h2 (br_f (by decide) (br_f (by decide) (br_f (by decide) (br_f (by decide) (br_t rfl ⟨v, by rw [ei]; exact hp⟩))))))⟩
        · exact neg (Or.inr k4)
theorem nl_q_blocker (I : nl_I NT NO NA b L ac m QS lm pa st ln lr wo wk q bs se rd wr ve hi ow ob kd op rs) (v1 : Int32) : ∃ r : Int32, (∀ post : Int32 → Prop, post r → wpX_blocker post (nI NT, nI NO, nI NA, nI b, lm, nI w, nI L, nI ac, pa, st, ln, lr, wo, wk, wp, q, bs, se, rd, wr, ve, hi) v1) ∧ (∀ post : Int32 → Prop, post r → wpY_blocker post (nI NT, nI NO, nI NA, nI b, nI w, nI L, bs, pa, st, wo, wk, wp, q, ow, ob, kd, op, rs) v1) := by
  unfold wpX_blocker wpY_blocker
  obtain ⟨hb, hN⟩ := nl_b16 I
  rcases nl_ix v1 (n := b) (by omega) with h | ⟨t, ht, rfl⟩
  · exact ⟨-1, fun post hp => nl_Xw0 h (br_t rfl hp), fun post hp => nl_Yk0 h (br_t rfl hp)⟩
  · have v : vp_in (nI t) 16 := vp_in_nI (by omega) (by omega)
    have et : (nI t).toNatClampNeg = t := nI_clamp (by omega)
    by_cases hs : st t = 1
    · have hs' : st (nI t).toNatClampNeg = 1 := by rw [et]; exact hs
      obtain ⟨⟨x, hx, ewo⟩, _⟩ := I.2.2.2.2.2.2.2.2.2 t ht hs
      obtain ⟨mk, BK⟩ := nl_BK_e (rd x) (wr x) (ln t) (wk t)
      have key : ∀ r : Int32, ((∀ g, g < 16 → bt mk g = false) → r = -1) → (∀ h, h < 16 → bt mk h = true → (∀ g, g < h → bt mk g = false) → r = nI h) → (∀ post : Int32 → Prop, post r → wpX_blocker post (nI NT, nI NO, nI NA, nI b, lm, nI w, nI L, nI ac, pa, st, ln, lr, wo, wk, wp, q, bs, se, rd, wr, ve, hi) (nI t)) ∧ (∀ post : Int32 → Prop, post r → wpY_blocker post (nI NT, nI NO, nI NA, nI b, nI w, nI L, bs, pa, st, wo, wk, wp, q, ow, ob, kd, op, rs) (nI t)) := by
        unfold wpX_blocker wpY_blocker
        intro r r0 r1
        refine ⟨fun post hp => nl_Xw ht hb (fun _ => br_f (by decide) ⟨v, v, ?_⟩) (fun z => absurd hs z), fun post hp => nl_Yk1 ht hb (br_f (by decide) ⟨v, br_t hs' ⟨v, v, ?_⟩⟩)⟩
        · rw [et, ewo]
          refine nl_Xbk (by omega) (by omega) (fun mk' h => ?_)
          rw [nl_BK_u h BK]
          exact nl_Xlw (fun h h1 h2 h3 => by rw [r1 h h1 h2 h3] at hp; exact hp) (fun hall => by rw [r0 hall] at hp; exact hp)
        · rw [et, ewo]
          exact nl_Yf I ht hx BK _ (fun h h1 h2 h3 => by rw [r1 h (by omega) h2 h3] at hp; exact hp) (fun z => by rw [r0 (fun g _ => by rw [z, b_0])] at hp; exact hp)
      by_cases c : ∃ h, h < 16 ∧ bt mk h = true
      · obtain ⟨h, h1, h2, h3⟩ : ∃ h, h < 16 ∧ bt mk h = true ∧ ∀ g, g < h → bt mk g = false := by
          obtain ⟨h, h1, h2⟩ := c
          induction h using Nat.strongRecOn with
          | _ h ih =>
            by_cases d : ∃ g, g < h ∧ bt mk g = true
            · obtain ⟨g, g1, g2⟩ := d
              exact ih g g1 (by omega) g2
            · exact ⟨h, h1, h2, fun g hg => nl_nt (fun z => d ⟨g, hg, z⟩)⟩
        refine ⟨nI h, key (nI h) (fun hall => ?_) (fun g g1 g2 g3 => ?_)⟩
        · rw [hall h h1] at h2; exact nomatch h2
        · rcases Nat.lt_trichotomy h g with z | z | z
          · rw [g3 h z] at h2; exact nomatch h2
          · rw [z]
          · rw [h3 g z] at g2; exact nomatch g2
      · exact ⟨-1, key (-1) (fun _ => rfl) (fun g g1 g2 _ => absurd ⟨g, g1, g2⟩ c)⟩
    · have hs' : ¬ st (nI t).toNatClampNeg = 1 := by rw [et]; exact hs
      exact ⟨-1, fun post hp => nl_Xw ht hb (fun z => absurd z hs) (fun _ => br_t rfl hp), fun post hp => nl_Yk1 ht hb (br_f (by decide) ⟨v, br_f hs' hp⟩)⟩
end
end
section
section
variable {NT NO NA b w L ac m : Nat} {QS : Nat → Prop} {lm : Int32} {pa st ln lr wo wk wp q bs se rd wr ve hi ow ob kd op rs : Nat → Int32}
theorem nl_Xb28 {post : Int32 → SX → Prop} {x1 lo : Int32} (hb : b < NT) (hN : NT ≤ 16) (hlo : ∀ pq : Int32 → Prop, pq lo → wpX_lineOf pq (nI NT, nI NO, nI NA, nI (b + 1), lm, nI w, nI L, nI ac, upd pa b x1, upd st b 0, ln, lr, wo, wk, wp, q, bs, se, rd, wr, ve, hi) x1) (h : post (nI b) (nI NT, nI NO, nI NA, nI (b + 1), lm ||| ((1 : Int32) <<< (nI b &&& 31)), nI w, nI L, nI ac, upd pa b x1, upd st b 0, upd ln b (lo ||| ((1 : Int32) <<< (nI b &&& 31))), upd lr b 0, wo, wk, wp, q, bs, se, rd, wr, ve, hi)) : wX_begin_28 post x1 (nI NT) (nI NO) (nI NA) (nI b) lm (nI w) (nI L) (nI ac) pa st ln lr wo wk wp q bs se rd wr ve hi := by
  have e : (nI b).toNatClampNeg = b := nI_clamp (by omega)
  have v : vp_in (nI b) 16 := vp_in_nI (by omega) (by omega)
  unfold wX_begin_28
  rw [e]
  exact br_t (nI_lt hb (by omega)) (nm_r (nI_1 b) ⟨v, nm_e ⟨v, nm_e (hlo _ ⟨v, nm_e ⟨v, nm_e (nm_e h)⟩⟩)⟩⟩)
theorem nl_Xb28f {post : Int32 → SX → Prop} {x1 : Int32} (hb : NT ≤ b) (hN : b ≤ 16) (h : post (-8) (nI NT, nI NO, nI NA, nI b, lm, nI w, nI L, nI ac, pa, st, ln, lr, wo, wk, wp, q, bs, se, rd, wr, ve, hi)) : wX_begin_28 post x1 (nI NT) (nI NO) (nI NA) (nI b) lm (nI w) (nI L) (nI ac) pa st ln lr wo wk wp q bs se rd wr ve hi := br_f (nI_nlt hb (by omega)) h
theorem nl_Yb33 {post : Int32 → SY → Prop} {x1 : Int32} (hb : b < NT) (hN : NT ≤ 16) (h : post (nI b) (nI NT, nI NO, nI NA, nI (b + 1), nI w, nI L, bs, upd pa b x1, upd st b 0, wo, wk, wp, q, ow, ob, kd, op, rs)) : wY_begin_33 post x1 (nI NT) (nI NO) (nI NA) (nI b) (nI w) (nI L) bs pa st wo wk wp q ow ob kd op rs := by
  have e : (nI b).toNatClampNeg = b := nI_clamp (by omega)
  have v : vp_in (nI b) 16 := vp_in_nI (by omega) (by omega)
  unfold wY_begin_33
  rw [e]
  refine br_t (nI_lt hb (by omega)) ⟨v, nm_e ⟨v, nm_e (nm_r (nI_1 b) ?_)⟩⟩
  rw [nI_pred]; exact h
theorem nl_Yb33f {post : Int32 → SY → Prop} {x1 : Int32} (hb : NT ≤ b) (hN : b ≤ 16) (h : post (-8) (nI NT, nI NO, nI NA, nI b, nI w, nI L, bs, pa, st, wo, wk, wp, q, ow, ob, kd, op, rs)) : wY_begin_33 post x1 (nI NT) (nI NO) (nI NA) (nI b) (nI w) (nI L) bs pa st wo wk wp q ow ob kd op rs := br_f (nI_nlt hb (by omega)) h
theorem nl_a_b28 (I : nl_I NT NO NA b L ac w (fun j => j < w) lm pa st ln lr wo wk q bs se rd wr ve hi ow ob kd op rs) (x1 lo : Int32) (hp : (x1 = -1 ∧ lo = 0) ∨ ∃ p, p < b ∧ x1 = nI p ∧ st p = 0 ∧ lo = ln p) : ∃ (r : Int32) (u : SX) (v : SY), nl_Rel u v ∧ (∀ post : Int32 → SX → Prop, post r u → wX_begin_28 post x1 (nI NT) (nI NO) (nI NA) (nI b) lm (nI w) (nI L) (nI ac) pa st ln lr wo wk wp q bs se rd wr ve hi) ∧ (∀ post : Int32 → SY → Prop, post r v → wY_begin_33 post x1 (nI NT) (nI NO) (nI NA) (nI b) (nI w) (nI L) bs pa st wo wk wp q ow ob kd op rs) := by
  have Z := I.1
  obtain ⟨z1, z2, z3, z4, z5, z6, z7⟩ := Z
  by_cases c : b < NT
  · refine ⟨nI b, _, _, nl_in NT NO NA (b + 1) w L ac _ _ _ _ _ wo wk wp q bs se rd wr ve hi ow ob kd op rs (nl_begin I c x1 lo hp), fun post h => nl_Xb28 c z2 (fun pq hq => ?_) h, fun post h => nl_Yb33 c z2 h⟩
    rcases hp with ⟨e1, e2⟩ | ⟨p, hp, e1, e2, e3⟩
    · rw [e1]; rw [e2] at hq; exact nl_Xlo_n hq
    · rw [e1]; rw [e3] at hq; exact nl_Xlo_t (by omega) hq
  · exact ⟨-8, _, _, nl_in NT NO NA b w L ac lm pa st ln lr wo wk wp q bs se rd wr ve hi ow ob kd op rs I, fun post h => nl_Xb28f (by omega) (by omega) h, fun post h => nl_Yb33f (by omega) (by omega) h⟩
theorem nl_a_begin (I : nl_I NT NO NA b L ac w (fun j => j < w) lm pa st ln lr wo wk q bs se rd wr ve hi ow ob kd op rs) (v1 : Int32) : ∃ (r : Int32) (u : SX) (v : SY), nl_Rel u v ∧ (∀ post : Int32 → SX → Prop, post r u → wpX_begin post (nI NT, nI NO, nI NA, nI b, lm, nI w, nI L, nI ac, pa, st, ln, lr, wo, wk, wp, q, bs, se, rd, wr, ve, hi) v1) ∧ (∀ post : Int32 → SY → Prop, post r v → wpY_begin post (nI NT, nI NO, nI NA, nI b, nI w, nI L, bs, pa, st, wo, wk, wp, q, ow, ob, kd, op, rs) v1) := by
  have R := nl_in NT NO NA b w L ac lm pa st ln lr wo wk wp q bs se rd wr ve hi ow ob kd op rs I
  obtain ⟨hb, hN⟩ := nl_b16 I
  unfold wpX_begin wpY_begin wY_begin_16
  by_cases c : v1 = -1
  · obtain ⟨r, u, v, R', hX, hY⟩ := nl_a_b28 I (wp := wp) v1 0 (Or.inl ⟨c, rfl⟩)
    exact ⟨r, u, v, R', fun post h => br_t c (hX post h), fun post h => br_t c (br_t c (hY post h))⟩
  · rcases nl_ix v1 (n := b) (by omega) with h | ⟨t, ht, rfl⟩
    · exact ⟨-2, _, _, R, fun post hp => br_f c (nl_Xk0 h (br_t rfl hp)), fun post hp => br_f c (nl_Yk0 h (br_t rfl hp))⟩
    · have e : (nI t).toNatClampNeg = t := nI_clamp (by omega)
      have v : vp_in (nI t) 16 := vp_in_nI (by omega) (by omega)
      by_cases hs : st t = 0
      · have hs' : st (nI t).toNatClampNeg = 0 := by rw [e]; exact hs
        obtain ⟨r, u, v', R', hX, hY⟩ := nl_a_b28 I (wp := wp) (nI t) (ln t) (Or.inr ⟨t, ht, rfl, hs, rfl⟩)
        exact ⟨r, u, v', R', fun post h => br_f c (nl_Xk1 ht hb (br_f (by decide) ⟨v, br_t hs' (hX post h)⟩)), fun post h => br_f c (nl_Yk1 ht hb (br_f (by decide) (br_f c ⟨v, br_t hs' (hY post h)⟩)))⟩
      · have hs' : ¬ st (nI t).toNatClampNeg = 0 := by rw [e]; exact hs
        exact ⟨-5, _, _, R, fun post h => br_f c (nl_Xk1 ht hb (br_f (by decide) ⟨v, br_f hs' h⟩)), fun post h => br_f c (nl_Yk1 ht hb (br_f (by decide) (br_f c ⟨v, br_f hs' h⟩)))⟩
end
end
section
section
variable {NT NO NA b w L ac m : Nat} {QS : Nat → Prop} {lm : Int32} {pa st ln lr wo wk wp q bs se rd wr ve hi ow ob kd op rs : Nat → Int32}
theorem nl_Xrf (post : Int32 → Prop) {t x : Nat} {k : Int32} (ht : t < b) (hb : b ≤ 16) (hx : x < NO) (hN : NO ≤ 8) (hk : k = 0 ∨ k = 1 ∨ k = 2) (h : wX_refusalOf_39 post (nI t) (nI NT) (nI NO) (nI NA) (nI b) lm (nI w) (nI L) (nI ac) pa st ln lr wo wk wp q bs se rd wr ve hi) : wpX_refusalOf post (nI NT, nI NO, nI NA, nI b, lm, nI w, nI L, nI ac, pa, st, ln, lr, wo, wk, wp, q, bs, se, rd, wr, ve, hi) (nI t) (nI x) k := by
  unfold wpX_refusalOf
  refine nl_Xk1 ht hb (br_f (by decide) (nl_Xo1 hx hN (br_f (by decide) ?_)))
  exact br_c (fun _ => h) (fun z => br_c (fun _ => h) (fun z1 => br_c (fun _ => h) (fun z2 => absurd hk (fun k => k.elim z (fun k => k.elim z1 z2)))))
theorem nl_Y60 {post : Int32 → SY → Prop} {x1 x2 x3 x4 : Int32} (hL : L ≤ 80) (hw : w ≤ 16) (hlt : w + nl_ca kd L < NA → (x3 = 0 → wY_request_111 post x1 x2 x3 0 (nI NT) (nI NO) (nI NA) (nI b) (nI w) (nI L) bs pa st wo wk wp q ow ob kd op rs) ∧ (¬ x3 = 0 → wY_request_111 post x1 x2 x3 x4 (nI NT) (nI NO) (nI NA) (nI b) (nI w) (nI L) bs pa st wo wk wp q ow ob kd op rs)) (hge : NA ≤ w + nl_ca kd L → post (-8) (nI NT, nI NO, nI NA, nI b, nI w, nI L, bs, pa, st, wo, wk, wp, q, ow, ob, kd, op, rs)) (hN : NA ≤ 64) (hc : ∀ i, i ≤ L → nl_ca kd i ≤ i) :
    ∀ d i, i + d = L → wY_request_60 post x1 x2 x3 x4 (nI NT) (nI NO) (nI NA) (nI b) (nI w) (nI L) bs pa st wo wk wp q ow ob kd op rs (d + 1) (nI (w + nl_ca kd i)) (nI i) := by
  intro d
  induction d with
  | zero =>
    intro i hd
    have e : i = L := by omega
    subst e
    have := hc i (Nat.le_refl i)
    refine br_t (nI_le (by omega) (by omega)) ?_
    by_cases c : w + nl_ca kd i < NA
    · exact br_t (nI_lt c (by omega)) (hlt c)
    · exact br_f (nI_nlt (by omega) (by omega)) (hge (by omega))
  | succ d ih =>
    intro i hd
    have v : vp_in (nI i) 80 := vp_in_nI (by omega) (by omega)
    have k := ih (i + 1) (by omega)
    rw [nl_ca] at k
    refine br_f (nI_ge (by omega) (by omega)) ⟨v, ?_⟩
    rw [nI_clamp (by omega)]
    refine br_c (fun z => nm_r (nI_1 i) ?_) (fun z => nm_r (nI_1 _) (nm_r (nI_1 i) ?_))
    · rw [if_pos z] at k; exact k
    · rw [if_neg z] at k; exact k
theorem nl_ca_le {kd : Nat → Int32} : ∀ i, nl_ca kd i ≤ i := by
  intro i
  induction i with
  | zero => exact Nat.le_refl 0
  | succ i ih =>
    rw [nl_ca]
    by_cases c : kd i = 3
    · rw [if_pos c]; omega
    · rw [if_neg c]; omega
theorem nl_a_req (I : nl_I NT NO NA b L ac w (fun j => j < w) lm pa st ln lr wo wk q bs se rd wr ve hi ow ob kd op rs) {t x : Nat} (k o : Int32) (ht : t < b) (hx : x < NO) (hs : st t = 0) (hk : k = 0 ∨ k = 1 ∨ k = 2) (hc : ac + w < NA) : ∃ (r : Int32) (u : SX) (v : SY), nl_Rel u v ∧ (∀ post : Int32 → SX → Prop, post r u → wX_request_27 post (nI t) (nI x) k o (nI NT) (nI NO) (nI NA) (nI b) lm (nI w) (nI L) (nI ac) pa st ln lr wo wk wp q bs se rd wr ve hi) ∧ (∀ post : Int32 → SY → Prop, post r v → wY_request_111 post (nI t) (nI x) k o (nI NT) (nI NO) (nI NA) (nI b) (nI w) (nI L) bs pa st wo wk wp q ow ob kd op rs) := by
  have hw := (nl_w16 I).2 t ht hs
  have Z := I.1
  have QU := I.2.2.2.2.2.2.2.2.1
  obtain ⟨z1, z2, z3, z4, z5, z6, z7⟩ := Z
  have hl : nl_lv st t = true := nl_lv_i.mpr (Or.inl hs)
  have hL : L < 80 := by omega
  have v : vp_in (nI t) 16 := vp_in_nI (by omega) (by omega)
  have et : (nI t).toNatClampNeg = t := nI_clamp (by omega)
  have qi : ∀ j, j < w → j < w ∧ ¬ q j = nI t := fun j hj => ⟨hj, fun z => by
    obtain ⟨s, e1, e2, e3⟩ := QU.1 j hj
    have := (nI_eq (by omega) (by omega)).mp (e2.symm.trans z)
    rw [this, hs] at e3; exact absurd e3 (by decide)⟩
  obtain ⟨mk, BK⟩ := nl_BK_e (rd x) (wr x) (ln t) k
  unfold wX_request_27 wY_request_111
  by_cases c : mk = 0
  · subst c
    have k0 := nl_BK_0 BK
    by_cases ck : k = 0
    · subst ck
      have I' := nl_grant I (x := x) (m' := w) (QS' := fun j => j < w) ht hl 0 o (nl_V (nl_E pa st ow) kd ob op ln L (bs x) (nI x) (some t)) (Or.inl rfl) qi (by omega) (nl_g_rd I ht hx hl o k0.1)
      refine ⟨1, _, _, nl_in NT NO NA b w (L + 1) (ac + 1) lm pa _ ln _ wo wk wp q bs se _ wr ve _ _ _ _ _ _ I', fun post hp => ?_, fun post hp => ?_⟩
      · exact nl_Xbk (by omega) (by omega) (fun mk' h => br_t (nl_BK_u h BK) (nl_Xg_r (by omega) (by omega) hL (nl_Xv I hx (t := some t) (fun a z => by cases z; exact ht)) hp))
      · exact nl_Yf I ht hx BK _ (fun h _ z _ => by rw [b_0] at z; exact nomatch z) (fun _ => br_t rfl (nl_Yg (by omega) hL (nl_Yv I hx (t := some t) (fun a z => by cases z; exact ht)) hp))
    · have hk2 : k = 1 ∨ k = 2 := hk.resolve_left ck
      have I' := nl_grant I (x := x) (m' := w) (QS' := fun j => j < w) ht hl k o (nl_V (nl_E pa st ow) kd ob op ln L (bs x) (nI x) (some t)) hk qi (by omega) (nl_g_wr I ht hx hl k o _ hk2 (k0.2 ck) rfl)
      refine ⟨1, _, _, nl_in NT NO NA b w (L + 1) (ac + 1) lm pa _ ln _ wo wk wp q bs se rd _ _ _ _ _ _ _ _ I', fun post hp => ?_, fun post hp => ?_⟩
      · exact nl_Xbk (by omega) (by omega) (fun mk' h => br_t (nl_BK_u h BK) (nl_Xg_w (by omega) (by omega) hL hk2 (nl_Xv I hx (t := some t) (fun a z => by cases z; exact ht)) hp))
      · exact nl_Yf I ht hx BK _ (fun h _ z _ => by rw [b_0] at z; exact nomatch z) (fun _ => br_t rfl (nl_Yg (by omega) hL (nl_Yv I hx (t := some t) (fun a z => by cases z; exact ht)) hp))
  · have I' := nl_enq I ht hx hs k hk hc
    refine ⟨0, _, _, nl_in NT NO NA b (w + 1) L ac lm pa _ ln lr _ _ (upd wp t o) _ bs se rd wr ve hi ow ob kd op rs I', fun post hp => ?_, fun post hp => ?_⟩
    · exact nl_Xbk (by omega) (by omega) (fun mk' h => br_f (by rw [nl_BK_u h BK]; exact c) (nl_Xeq (by omega) (by omega) hp))
    · refine nl_Yf I ht hx BK _ (fun h hb _ _ => br_f (nl_ne1 (by omega)) ?_) (fun z => absurd z c)
      have e2 : (nI w).toNatClampNeg = w := nI_clamp (by omega)
      rw [et, e2]
      exact ⟨v, nm_e ⟨v, nm_e ⟨v, nm_e ⟨v, nm_e (br_f (nI_ge (a := w) (b := 16) (by omega) (by omega)) ⟨vp_in_nI (by omega) (by omega), nm_e (nm_r (nI_1 w) hp)⟩)⟩⟩⟩⟩
theorem nl_a_request (I : nl_I NT NO NA b L ac w (fun j => j < w) lm pa st ln lr wo wk q bs se rd wr ve hi ow ob kd op rs) (v1 v2 v3 v4 : Int32) : ∃ (r : Int32) (u : SX) (v : SY), nl_Rel u v ∧ (∀ post : Int32 → SX → Prop, post r u → wpX_request post (nI NT, nI NO, nI NA, nI b, lm, nI w, nI L, nI ac, pa, st, ln, lr, wo, wk, wp, q, bs, se, rd, wr, ve, hi) v1 v2 v3 v4) ∧ (∀ post : Int32 → SY → Prop, post r v → wpY_request post (nI NT, nI NO, nI NA, nI b, nI w, nI L, bs, pa, st, wo, wk, wp, q, ow, ob, kd, op, rs) v1 v2 v3 v4) := by
  have R := nl_in NT NO NA b w L ac lm pa st ln lr wo wk wp q bs se rd wr ve hi ow ob kd op rs I
  obtain ⟨hb, hN⟩ := nl_b16 I
  have hL := nl_L80 I
  have hw := (nl_w16 I).1
  unfold wpX_request wpY_request
  rcases nl_ix v1 (n := b) (by omega) with h | ⟨t, ht, rfl⟩
  · refine ⟨-2, _, _, R, fun post hp => ?_, fun post hp => nl_Yk0 h (br_t rfl hp)⟩
    unfold wpX_refusalOf
    exact nl_Xk0 h (br_t rfl (br_f (by decide) hp))
  · rcases nl_ix v2 (n := NO) (by omega) with h | ⟨x, hx, rfl⟩
    · refine ⟨-3, _, _, R, fun post hp => ?_, fun post hp => nl_Yk1 ht hb (br_f (by decide) (nl_Yo0 h (br_t rfl hp)))⟩
      unfold wpX_refusalOf
      exact nl_Xk1 ht hb (br_f (by decide) (nl_Xo0 h (br_t rfl (br_f (by decide) hp))))
    · by_cases hk : v3 = 0 ∨ v3 = 1 ∨ v3 = 2
      · have v : vp_in (nI t) 16 := vp_in_nI (by omega) (by omega)
        have et : (nI t).toNatClampNeg = t := nI_clamp (by omega)
        have Y39 : ∀ post : Int32 → SY → Prop, wY_request_39 post (nI t) (nI x) v3 v4 (nI NT) (nI NO) (nI NA) (nI b) (nI w) (nI L) bs pa st wo wk wp q ow ob kd op rs → (v3 = 0 → wY_request_39 post (nI t) (nI x) v3 v4 (nI NT) (nI NO) (nI NA) (nI b) (nI w) (nI L) bs pa st wo wk wp q ow ob kd op rs) ∧ (¬ v3 = 0 → ((v3 = 1 → wY_request_39 post (nI t) (nI x) v3 v4 (nI NT) (nI NO) (nI NA) (nI b) (nI w) (nI L) bs pa st wo wk wp q ow ob kd op rs) ∧ (¬ v3 = 1 → ((v3 = 2 → wY_request_39 post (nI t) (nI x) v3 v4 (nI NT) (nI NO) (nI NA) (nI b) (nI w) (nI L) bs pa st wo wk wp q ow ob kd op rs) ∧ (¬ v3 = 2 → post (-4) (nI NT, nI NO, nI NA, nI b, nI w, nI L, bs, pa, st, wo, wk, wp, q, ow, ob, kd, op, rs)))))) := fun post h =>
          br_c (fun _ => h) (fun z => br_c (fun _ => h) (fun z1 => br_c (fun _ => h) (fun z2 => absurd hk (fun k => k.elim z (fun k => k.elim z1 z2)))))
        obtain ⟨z1, z2, z3, z4, z5, z6, z7⟩ := I.1
        by_cases hs : st t = 0
        · have hs' : st (nI t).toNatClampNeg = 0 := by rw [et]; exact hs
          have y60 : ∀ post : Int32 → SY → Prop, (w + nl_ca kd L < NA → (v3 = 0 → wY_request_111 post (nI t) (nI x) v3 0 (nI NT) (nI NO) (nI NA) (nI b) (nI w) (nI L) bs pa st wo wk wp q ow ob kd op rs) ∧ (¬ v3 = 0 → wY_request_111 post (nI t) (nI x) v3 v4 (nI NT) (nI NO) (nI NA) (nI b) (nI w) (nI L) bs pa st wo wk wp q ow ob kd op rs)) → (NA ≤ w + nl_ca kd L → post (-8) (nI NT, nI NO, nI NA, nI b, nI w, nI L, bs, pa, st, wo, wk, wp, q, ow, ob, kd, op, rs)) → wY_request_39 post (nI t) (nI x) v3 v4 (nI NT) (nI NO) (nI NA) (nI b) (nI w) (nI L) bs pa st wo wk wp q ow ob kd op rs := fun post h1 h2 =>
            ⟨v, br_t hs' ⟨L + 1, nl_Y60 hL (by omega) h1 h2 z4 (fun i _ => nl_ca_le i) L 0 (by omega)⟩⟩
          by_cases cc : ac + w < NA
          · have hlt : nI ac + nI w < nI NA := by rw [nI_add]; exact nI_lt cc (by omega)
            by_cases k0 : v3 = 0
            · obtain ⟨r, u, v', R', hX, hY⟩ := nl_a_req I (wp := wp) v3 0 ht hx hs hk cc
              exact ⟨r, u, v', R', fun post hp => nl_Xrf _ ht hb hx hN hk ⟨v, br_t hs' (br_t hlt (br_t rfl (br_t k0 (hX post hp))))⟩, fun post hp => nl_Yk1 ht hb (br_f (by decide) (nl_Yo1 hx hN (br_f (by decide) (Y39 post (y60 post (fun _ => br_t k0 (hY post hp)) (fun z => by omega))))))⟩
            · obtain ⟨r, u, v', R', hX, hY⟩ := nl_a_req I (wp := wp) v3 v4 ht hx hs hk cc
              exact ⟨r, u, v', R', fun post hp => nl_Xrf _ ht hb hx hN hk ⟨v, br_t hs' (br_t hlt (br_t rfl (br_f k0 (hX post hp))))⟩, fun post hp => nl_Yk1 ht hb (br_f (by decide) (nl_Yo1 hx hN (br_f (by decide) (Y39 post (y60 post (fun _ => br_f k0 (hY post hp)) (fun z => by omega))))))⟩
          · have hlt : ¬ nI ac + nI w < nI NA := by rw [nI_add]; exact nI_nlt (by omega) (by omega)
            exact ⟨-8, _, _, R, fun post hp => nl_Xrf _ ht hb hx hN hk ⟨v, br_t hs' (br_f hlt (br_f (by decide) hp))⟩, fun post hp => nl_Yk1 ht hb (br_f (by decide) (nl_Yo1 hx hN (br_f (by decide) (Y39 post (y60 post (fun z => by omega) (fun _ => hp))))))⟩
        · have hs' : ¬ st (nI t).toNatClampNeg = 0 := by rw [et]; exact hs
          refine ⟨-5, _, _, R, fun post hp => nl_Xrf _ ht hb hx hN hk ⟨v, br_f hs' (br_f (by decide) hp)⟩, fun post hp => nl_Yk1 ht hb (br_f (by decide) (nl_Yo1 hx hN (br_f (by decide) (Y39 post ⟨v, br_f hs' hp⟩))))⟩
      · refine ⟨-4, _, _, R, fun post hp => ?_, fun post hp => nl_Yk1 ht hb (br_f (by decide) (nl_Yo1 hx hN (br_f (by decide) (br_f (fun z => hk (Or.inl z)) (br_f (fun z => hk (Or.inr (Or.inl z))) (br_f (fun z => hk (Or.inr (Or.inr z))) hp))))))⟩
        unfold wpX_refusalOf
        exact nl_Xk1 ht hb (br_f (by decide) (nl_Xo1 hx hN (br_f (by decide) (br_f (fun z => hk (Or.inl z)) (br_f (fun z => hk (Or.inr (Or.inl z))) (br_f (fun z => hk (Or.inr (Or.inr z))) (br_f (by decide) hp)))))))
end
end
section
section
variable {NT NO NA b w L ac m : Nat} {QS : Nat → Prop} {lm : Int32} {pa st ln lr wo wk wp q bs se rd wr ve hi ow ob kd op rs : Nat → Int32}
theorem nl_Xpl (I : nl_I NT NO NA b L ac m QS lm pa st ln lr wo wk q bs se rd wr ve hi ow ob kd op rs) {post : SX → Prop} {t : Nat} {lm' : Int32} (ht : t < b) (hst : st t = 0) (hc : ∀ s, s < b → nl_lv st s = true → bt (ln s) t = true → s = t) (h : ∀ rd wr se ve : Nat → Int32, nl_OBS NO (nl_E pa (upd st t 2) ow) kd ob op ln L bs se rd wr ve → post (nI NT, nI NO, nI NA, nI b, lm', nI w, nI L, nI ac, pa, upd st t 2, ln, lr, wo, wk, wp, q, bs, se, rd, wr, ve, hi)) : wpX_passLocks post (nI NT, nI NO, nI NA, nI b, lm', nI w, nI L, nI ac, pa, upd st t 2, ln, lr, wo, wk, wp, q, bs, se, rd, wr, ve, hi) (nI t) := by
  have HE := nl_HE I
  obtain ⟨⟨z1, z2, z3, z4, z5, z6, z7⟩, T, S, LV, HI, EN, OB, LR, QU, WA⟩ := I
  have hl : nl_lv st t = true := nl_lv_i.mpr (Or.inl hst)
  have hE : ∀ i, i < L → nl_E pa (upd st t 2) ow i = nl_mv t (nl_pp pa t) (nl_E pa st ow i) := fun i hi => by
    obtain ⟨⟨o, h1, h2⟩, _⟩ := EN i hi
    rw [nl_E_cl h2 (by omega), nl_E_cl h2 (by omega)]
    exact nl_eh_co T S (by omega) ht hl h1
  have HE' : ∀ i, i < L → ∀ h, nl_E pa (upd st t 2) ow i = some (some h) → h < b := fun i hi h e => by
    obtain ⟨⟨o, h1, h2⟩, _⟩ := EN i hi
    rw [nl_E_cl h2 (by omega)] at e
    exact (nl_eh_s T (by omega) h1 e).2.2
  have hlive : ∀ i, i < L → ∀ h, nl_E pa st ow i = some (some h) → bt (ln h) t = true → h = t := fun i hi h e z =>
    hc h (HE i hi h e).1 (HE i hi h e).2 z
  unfold wpX_passLocks
  refine nm_e ⟨vp_in_nI (by omega) (by omega), ?_⟩
  rw [nI_clamp (by omega)]
  rcases T t ht with ⟨e1, e2⟩ | ⟨j, hj, e1, e2⟩
  · have hp : nl_pp pa t = none := nl_pp_r e1
    refine nm_r e1 (br_t rfl ⟨NO + 1, ?_⟩)
    exact nl_Xpl_l z3 T (by omega) (fun i hi h e => (HE i hi h e).1) HE' ht hlive (Or.inl ⟨hp, e2⟩) hE (fun h => by rw [b_0, hp]; exact ⟨fun z => (nomatch z), fun z => (nomatch z)⟩) (by rw [hp]; rfl) h NO 0 rd wr se ve (by omega) (fun y hy => absurd hy (Nat.not_lt_zero _)) (fun y _ hy => OB y hy)
  · have hp : nl_pp pa t = some j := nl_pp_j e1 (by omega)
    refine nm_r e1 (br_f (nl_ne1 (by omega)) (nm_e ⟨NO + 1, ?_⟩))
    exact nl_Xpl_l z3 T (by omega) (fun i hi h e => (HE i hi h e).1) HE' ht hlive (Or.inr ⟨j, hp, hj, e2⟩) hE (fun h => by rw [nl_sh (by omega), hp, decide_eq_true_eq]; exact ⟨fun z => by rw [z], fun z => (Option.some.inj z).symm⟩) (by rw [hp]; rfl) h NO 0 rd wr se ve (by omega) (fun y hy => absurd hy (Nat.not_lt_zero _)) (fun y _ hy => OB y hy)
theorem nl_child (T : nl_TR b pa ln) (S : nl_ST b pa st) (hb : b ≤ 16) {t : Nat} : ∀ s, s < b → ¬ s = t → bt (ln s) t = true → nl_lv st s = true → ∃ c, c < b ∧ pa c = nI t ∧ nl_lv st c = true := by
  intro s
  induction s using Nat.strongRecOn with
  | _ s ih =>
    intro hs hn hst hl
    rcases T s hs with ⟨e1, e2⟩ | ⟨j, hj, e1, e2⟩
    · rw [e2, decide_eq_true_eq] at hst; exact absurd hst.symm hn
    · rw [e2, Bool.or_eq_true, decide_eq_true_eq] at hst
      have h1 := hst.resolve_left (fun z => hn z.symm)
      by_cases c : j = t
      · exact ⟨s, hs, by rw [e1, c], hl⟩
      · exact ih j hj (by omega) c h1 ((S.2 s j hs hj e1).1 hl)
theorem nl_Yc_l {post : Int32 → SY → Prop} {t : Nat} (hb : b ≤ 16) (ht : t < b) (hno : ∀ c, c < b → pa c = nI t → nl_lv st c = false) (h : wpY_append (fun u => wpY_wake (fun r u => post r u) u) (nI NT, nI NO, nI NA, nI b, nI w, nI L, bs, pa, upd st t 2, wo, wk, wp, q, ow, ob, kd, op, rs) (nI t) (-1) 3 0 0) : ∀ d c, c + d = b → wY_commit_25 post (nI t) (nI NT) (nI NO) (nI NA) (nI b) (nI w) (nI L) bs pa st wo wk wp q ow ob kd op rs (d + 1) (nI c) := by
  have et : (nI t).toNatClampNeg = t := nI_clamp (by omega)
  intro d
  induction d with
  | zero =>
    intro c hc
    have e : c = b := by omega
    subst e
    refine br_t (nI_le (by omega) (by omega)) ⟨vp_in_nI (by omega) (by omega), ?_⟩
    rw [et]
    exact nm_e h
  | succ d ih =>
    intro c hc
    have k := ih (c + 1) (by omega)
    refine br_f (nI_ge (by omega) (by omega)) ⟨vp_in_nI (by omega) (by omega), ?_⟩
    rw [nI_clamp (by omega)]
    refine br_c (fun z => nl_Yl (by omega) hb (fun hl => ?_) (fun hl => br_t rfl (nm_r (nI_1 c) k))) (fun z => nm_r (nI_1 c) k)
    rw [hno c (by omega) z] at hl; exact nomatch hl
theorem nl_Yc_f {post : Int32 → SY → Prop} {t : Nat} (hb : b ≤ 16) (ht : t < b) (h : post (-7) (nI NT, nI NO, nI NA, nI b, nI w, nI L, bs, pa, st, wo, wk, wp, q, ow, ob, kd, op, rs)) : ∀ d c, c + d = b → (∃ s, c ≤ s ∧ s < b ∧ pa s = nI t ∧ nl_lv st s = true) → wY_commit_25 post (nI t) (nI NT) (nI NO) (nI NA) (nI b) (nI w) (nI L) bs pa st wo wk wp q ow ob kd op rs (d + 1) (nI c) := by
  intro d
  induction d with
  | zero =>
    intro c hc hs
    obtain ⟨s, h1, h2, _⟩ := hs
    omega
  | succ d ih =>
    intro c hc hs
    have k : ¬ (pa c = nI t ∧ nl_lv st c = true) → wY_commit_25 post (nI t) (nI NT) (nI NO) (nI NA) (nI b) (nI w) (nI L) bs pa st wo wk wp q ow ob kd op rs (d + 1) (nI (c + 1)) := fun z => ih (c + 1) (by omega) (by
      obtain ⟨s, h1, h2, h3, h4⟩ := hs
      refine ⟨s, ?_, h2, h3, h4⟩
      by_cases e : s = c
      · subst e; exact absurd ⟨h3, h4⟩ z
      · omega)
    refine br_f (nI_ge (by omega) (by omega)) ⟨vp_in_nI (by omega) (by omega), ?_⟩
    rw [nI_clamp (by omega)]
    refine br_c (fun z => nl_Yl (by omega) hb (fun hl => br_f (by decide) h) (fun hl => br_t rfl (nm_r (nI_1 c) (k (fun y => by rw [hl] at y; exact nomatch y.2))))) (fun z => nm_r (nI_1 c) (k (fun y => z y.1)))
end
theorem nl_a_commit (NT NO NA b w L ac : Nat) (lm : Int32) (pa st ln lr wo wk wp q bs se rd wr ve hi ow ob kd op rs : Nat → Int32) (I : nl_I NT NO NA b L ac w (fun j => j < w) lm pa st ln lr wo wk q bs se rd wr ve hi ow ob kd op rs) (v1 : Int32) : wpX_commit (fun r u => wpY_commit (fun r' v => r' = r ∧ nl_Rel u v) (nI NT, nI NO, nI NA, nI b, nI w, nI L, bs, pa, st, wo, wk, wp, q, ow, ob, kd, op, rs) v1) (nI NT, nI NO, nI NA, nI b, lm, nI w, nI L, nI ac, pa, st, ln, lr, wo, wk, wp, q, bs, se, rd, wr, ve, hi) v1 := by
  have R := nl_in NT NO NA b w L ac lm pa st ln lr wo wk wp q bs se rd wr ve hi ow ob kd op rs I
  obtain ⟨hb, hN⟩ := nl_b16 I
  have hw := (nl_w16 I).1
  have I0 := I
  obtain ⟨⟨z1, z2, z3, z4, z5, z6, z7⟩, T, S, LV, HI, EN, OB, LR, QU, WA⟩ := I0
  unfold wpX_commit
  rcases nl_ix v1 (n := b) (by omega) with h | ⟨t, ht, rfl⟩
  · refine nl_Xk0 h (br_t rfl ?_)
    unfold wpY_commit
    exact nl_Yk0 h (br_t rfl ⟨rfl, R⟩)
  · have v : vp_in (nI t) 16 := vp_in_nI (by omega) (by omega)
    have et : (nI t).toNatClampNeg = t := nI_clamp (by omega)
    refine nl_Xk1 ht hb (br_f (by decide) ⟨v, ?_⟩)
    by_cases hs : st t = 0
    · have hs' : st (nI t).toNatClampNeg = 0 := by rw [et]; exact hs
      refine br_t hs' (nl_Xlc hb ht T LV (fun hex => br_f (by decide) ?_) (fun hc => br_t rfl ⟨v, ?_⟩))
      · obtain ⟨s, h1, h2, h3, h4⟩ := hex
        obtain ⟨c, c1, c2, c3⟩ := nl_child T S hb s h1 h2 h3 h4
        unfold wpY_commit
        refine nl_Yk1 ht hb (br_f (by decide) ⟨v, br_t hs' ⟨b + 1, nl_Yc_f hb ht ⟨rfl, R⟩ b 0 (by omega) ⟨c, Nat.zero_le _, c1, c2, c3⟩⟩⟩)
      · rw [et]
        refine nm_e (nm_e (nl_Xpl I ht hs hc (fun rd' wr' se' ve' HO => ?_)))
        have hcl := nl_cl_pos (nl_lv_i.mpr (Or.inl hs)) b ht
        have hL : L < 80 := by omega
        have I' := nl_commit I ht hs hc HO
        obtain ⟨r, u, v', R', hX, hY⟩ := nl_wake NT NO NA b w (L + 1) ac _ pa _ ln lr wo wk wp q bs se' rd' wr' ve' _ _ _ _ _ _ (by omega) I'
        obtain ⟨x1, x2, x3, x4, x5, x6, x7, x8, x9, x10, x11, x12, x13, x14, x15, x16, x17, x18, x19, x20, x21, x22⟩ := u
        obtain ⟨y1, y2, y3, y4, y5, y6, y7, y8, y9, y10, y11, y12, y13, y14, y15, y16, y17, y18⟩ := v'
        refine nl_Xap hL (hX _ ?_)
        show wpY_commit _ _ _
        unfold wpY_commit
        refine nl_Yk1 ht hb (br_f (by decide) ⟨v, br_t hs' ⟨b + 1, nl_Yc_l hb ht (fun c c1 c2 => nl_nt (fun z => ?_)) (nl_Yap hL (hY _ ⟨rfl, R'⟩)) b 0 (by omega)⟩⟩)
        have hct : bt (ln c) t = true := by
          rcases T c c1 with ⟨e1, _⟩ | ⟨j, hj, e1, e2⟩
          · exact absurd (c2.symm.trans e1) (nl_ne1 (by omega))
          · have : t = j := (nI_eq (by omega) (by omega)).mp (c2.symm.trans e1)
            rw [e2, ← this, nl_tr_self T ht, Bool.or_true]
        have e := hc c c1 z hct
        rcases T c c1 with ⟨e1, _⟩ | ⟨j, hj, e1, e2⟩
        · exact absurd (c2.symm.trans e1) (nl_ne1 (by omega))
        · have : t = j := (nI_eq (by omega) (by omega)).mp (c2.symm.trans e1)
          omega
    · have hs' : ¬ st (nI t).toNatClampNeg = 0 := by rw [et]; exact hs
      refine br_f hs' ?_
      unfold wpY_commit
      exact nl_Yk1 ht hb (br_f (by decide) ⟨v, br_f hs' ⟨rfl, R⟩⟩)
end
section
section
variable {NT NO NA b w L ac : Nat} {lm : Int32} {pa st ln lr wo wk wp bs se rd wr ve hi ow ob kd op rs : Nat → Int32}
theorem nl_drop {mk : Int32} (hb : b ≤ 16) (hw : w ≤ 16) : ∀ (d i kp : Nat) (q : Nat → Int32), i + d = w → kp ≤ i → (∀ j, (j < kp ∨ (i ≤ j ∧ j < w)) → ∃ t, t < b ∧ q j = nI t ∧ st t = 1) → (∀ j, j < kp → ∃ t, t < b ∧ q j = nI t ∧ bt mk t = false) → (∀ j1 j2, (j1 < kp ∨ (i ≤ j1 ∧ j1 < w)) → (j2 < kp ∨ (i ≤ j2 ∧ j2 < w)) → q j1 = q j2 → j1 = j2) →
    ∃ (q' : Nat → Int32) (k' : Nat), k' ≤ kp + d ∧ nl_QU (fun j => j < k') b q' (nl_ab st mk b) ∧ (∀ post : SX → Prop, post (nI NT, nI NO, nI NA, nI b, lm, nI k', nI L, nI ac, pa, nl_ab st mk b, ln, lr, wo, wk, wp, q', bs, se, rd, wr, ve, hi) → wX_dropWaiters_4 post mk (nI NT) (nI NO) (nI NA) (nI b) lm (nI w) (nI L) (nI ac) (d + 1) (nI kp) (nI i) pa (nl_ab st mk b) ln lr wo wk wp q bs se rd wr ve hi) ∧ (∀ post : Int32 → SY → Prop, wpY_wake post (nI NT, nI NO, nI NA, nI b, nI k', nI L, bs, pa, nl_ab st mk b, wo, wk, wp, q', ow, ob, kd, op, rs) → wY_abort_64 post (nI w) (nI NT) (nI NO) (nI NA) (nI b) (nI w) (nI L) (d + 1) (nI kp) (nI i) bs pa (nl_ab st mk b) wo wk wp q ow ob kd op rs) := by
  intro d
  induction d with
  | zero =>
    intro i kp q hd hk Q1 Q2 Q3
    refine ⟨q, kp, Nat.le_refl _, ⟨fun j hj => ?_, fun j1 j2 h1 h2 e => Q3 j1 j2 (Or.inl h1) (Or.inl h2) e⟩, fun post h => br_t (nI_le (by omega) (by omega)) h, fun post h => br_t (nI_le (by omega) (by omega)) h⟩
    obtain ⟨t, a1, a2, a3⟩ := Q1 j (Or.inl hj)
    obtain ⟨t2, b1, b2, b3⟩ := Q2 j hj
    have e : t = t2 := (nI_eq (by omega) (by omega)).mp (a2.symm.trans b2)
    rw [← e] at b3
    exact ⟨t, a1, a2, (nl_ab_f b3).trans a3⟩
  | succ d ih =>
    intro i kp q hd hk Q1 Q2 Q3
    have vi : vp_in (nI i) 16 := vp_in_nI (by omega) (by omega)
    have ei : (nI i).toNatClampNeg = i := nI_clamp (by omega)
    have ek : (nI kp).toNatClampNeg = kp := nI_clamp (by omega)
    have vk : vp_in (nI kp) 16 := vp_in_nI (by omega) (by omega)
    obtain ⟨t, ht, eq, est⟩ := Q1 i (Or.inr ⟨Nat.le_refl i, by omega⟩)
    have et : (nI t).toNatClampNeg = t := nI_clamp (by omega)
    have vt : vp_in (nI t) 16 := vp_in_nI (by omega) (by omega)
    cases c : bt mk t
    · have ne : ∀ j, (j < kp ∨ (i + 1 ≤ j ∧ j < w)) → ¬ q j = nI t := fun j hj z => by
        have := Q3 j i (hj.elim Or.inl (fun z => Or.inr ⟨by omega, z.2⟩)) (Or.inr ⟨Nat.le_refl i, by omega⟩) (z.trans eq.symm)
        omega
      have low : ∀ j, (j < kp + 1 ∨ (i + 1 ≤ j ∧ j < w)) → ¬ j = kp → (j < kp ∨ (i + 1 ≤ j ∧ j < w)) := fun j hj hn => hj.elim (fun z => Or.inl (by omega)) Or.inr
      have wid : ∀ j, (j < kp ∨ (i + 1 ≤ j ∧ j < w)) → (j < kp ∨ (i ≤ j ∧ j < w)) := fun j hj => hj.elim Or.inl (fun z => Or.inr ⟨by omega, z.2⟩)
      obtain ⟨q', k', h1, h2, h3, h4⟩ := ih (i + 1) (kp + 1) (upd q kp (nI t)) (by omega) (by omega) (fun j hj => by
          by_cases cj : j = kp
          · rw [cj, pk_us]; exact ⟨t, ht, rfl, est⟩
          · rw [pk_un cj]; exact Q1 j (wid j (low j hj cj))) (fun j hj => by
          by_cases cj : j = kp
          · rw [cj, pk_us]; exact ⟨t, ht, rfl, c⟩
          · rw [pk_un cj]; exact Q2 j (by omega)) (fun j1 j2 g1 g2 e => by
          by_cases c1 : j1 = kp
          · by_cases c2 : j2 = kp
            · omega
            · rw [c1, pk_us, pk_un c2] at e
              exact absurd e.symm (ne j2 (low j2 g2 c2))
          · by_cases c2 : j2 = kp
            · rw [c2, pk_us, pk_un c1] at e
              exact absurd e (ne j1 (low j1 g1 c1))
            · rw [pk_un c1, pk_un c2] at e
              exact Q3 j1 j2 (wid j1 (low j1 g1 c1)) (wid j2 (low j2 g2 c2)) e)
      refine ⟨q', k', by omega, h2, fun post h => ?_, fun post h => ?_⟩
      · refine br_f (nI_ge (by omega) (by omega)) ⟨vi, nm_r ((congrArg q ei).trans eq) (br_t ((nl_bz (by omega)).mpr c) ⟨vk, ?_⟩)⟩
        rw [ek]
        exact nm_e (nm_r (nI_1 kp) (nm_r (nI_1 i) (h3 post h)))
      · refine br_f (nI_ge (by omega) (by omega)) ⟨vi, ?_⟩
        rw [ei, eq, et, ek]
        exact ⟨vt, br_t ((nl_ab_f c).trans est) ⟨vi, vk, nm_e (nm_r (nI_1 kp) (nm_r (nI_1 i) (h4 post h)))⟩⟩
    · have wid : ∀ j, (j < kp ∨ (i + 1 ≤ j ∧ j < w)) → (j < kp ∨ (i ≤ j ∧ j < w)) := fun j hj => hj.elim Or.inl (fun z => Or.inr ⟨by omega, z.2⟩)
      obtain ⟨q', k', h1, h2, h3, h4⟩ := ih (i + 1) kp q (by omega) (by omega) (fun j hj => Q1 j (wid j hj)) Q2 (fun j1 j2 g1 g2 e => Q3 j1 j2 (wid j1 g1) (wid j2 g2) e)
      have e3 : ¬ nl_ab st mk b t = 1 := by rw [nl_ab_t ht c]; decide
      refine ⟨q', k', by omega, h2, fun post h => ?_, fun post h => ?_⟩
      · exact br_f (nI_ge (by omega) (by omega)) ⟨vi, nm_r ((congrArg q ei).trans eq) (br_f ((nl_bnz (by omega)).mpr c) (nm_r (nI_1 i) (h3 post h)))⟩
      · refine br_f (nI_ge (by omega) (by omega)) ⟨vi, ?_⟩
        rw [ei, eq, et]
        exact ⟨vt, br_f e3 (nm_r (nI_1 i) (h4 post h))⟩
theorem nl_Yab_l {q : Nat → Int32} {post : Int32 → SY → Prop} {t : Nat} {mk : Int32} (hb : b ≤ 16) (T : nl_TR b pa ln) (ht : t < b) (hm : ∀ a, bt mk a = (decide (a < b) && bt (ln a) t)) (h : ∃ n, wY_abort_64 post (nI w) (nI NT) (nI NO) (nI NA) (nI b) (nI w) (nI L) n 0 0 bs pa (nl_ab st mk b) wo wk wp q ow ob kd op rs) : ∀ d s, s + d = b → wY_abort_24 post (nI t) (nI NT) (nI NO) (nI NA) (nI b) (nI w) (nI L) (d + 1) (nI s) bs pa (nl_ab st mk s) wo wk wp q ow ob kd op rs := by
  intro d
  induction d with
  | zero =>
    intro s hs
    have e : s = b := by omega
    subst e
    exact br_t (nI_le (by omega) (by omega)) h
  | succ d ih =>
    intro s hs
    have k := ih (s + 1) (by omega)
    have hms : bt mk s = bt (ln s) t := by rw [hm, decide_eq_true (by omega), Bool.true_and]
    refine br_f (nI_ge (by omega) (by omega)) (nl_Yon hb T (by omega) (by omega) (fun z => br_f (by decide) ⟨vp_in_nI (by omega) (by omega), ?_⟩) (fun z => br_t rfl (nm_r (nI_1 s) ?_)))
    · rw [nI_clamp (by omega)]
      rw [nl_ab_s1 (hms.trans z)] at k
      exact nm_e (nm_r (nI_1 s) k)
    · rw [nl_ab_s0 (hms.trans z)] at k
      exact k
end
theorem nl_a_abort (NT NO NA b w L ac : Nat) (lm : Int32) (pa st ln lr wo wk wp q bs se rd wr ve hi ow ob kd op rs : Nat → Int32) (I : nl_I NT NO NA b L ac w (fun j => j < w) lm pa st ln lr wo wk q bs se rd wr ve hi ow ob kd op rs) (v1 : Int32) : wpX_abort (fun r u => wpY_abort (fun r' v => r' = r ∧ nl_Rel u v) (nI NT, nI NO, nI NA, nI b, nI w, nI L, bs, pa, st, wo, wk, wp, q, ow, ob, kd, op, rs) v1) (nI NT, nI NO, nI NA, nI b, lm, nI w, nI L, nI ac, pa, st, ln, lr, wo, wk, wp, q, bs, se, rd, wr, ve, hi) v1 := by
  have R := nl_in NT NO NA b w L ac lm pa st ln lr wo wk wp q bs se rd wr ve hi ow ob kd op rs I
  obtain ⟨hb, hN⟩ := nl_b16 I
  have hw := (nl_w16 I).1
  have I0 := I
  obtain ⟨⟨z1, z2, z3, z4, z5, z6, z7⟩, T, S, LV, HI, EN, OB, LR, QU, WA⟩ := I0
  unfold wpX_abort
  rcases nl_ix v1 (n := b) (by omega) with h | ⟨t, ht, rfl⟩
  · refine nl_Xk0 h (br_t rfl ?_)
    unfold wpY_abort
    exact nl_Yk0 h (br_t rfl ⟨rfl, R⟩)
  · refine nl_Xk1 ht hb (br_f (by decide) (nl_Xl ht hb LV (fun hl => br_f (by decide) ?_) (fun hl => br_t rfl ?_)))
    · refine nl_Xst hb ht T (fun mk hm => nl_Xma hb ?_)
      obtain ⟨q', k', d1, d2, d3, d4⟩ := nl_drop (NT := NT) (NO := NO) (NA := NA) (L := L) (ac := ac) (lm := lm &&& (mk ^^^ (-1))) (pa := pa) (st := st) (ln := ln) (lr := lr) (wo := wo) (wk := wk) (wp := wp) (bs := bs) (se := se) (rd := rd) (wr := wr) (ve := ve) (hi := hi) (ow := ow) (ob := ob) (kd := kd) (op := op) (rs := rs) (mk := mk) hb (show w ≤ 16 by omega) w 0 0 q (by omega) (Nat.le_refl 0) (fun j hj => QU.1 j (hj.elim (fun z => absurd z (Nat.not_lt_zero _)) (fun z => z.2))) (fun j hj => absurd hj (Nat.not_lt_zero _)) (fun j1 j2 g1 g2 e => QU.2 j1 j2 (g1.elim (fun z => absurd z (Nat.not_lt_zero _)) (fun z => z.2)) (g2.elim (fun z => absurd z (Nat.not_lt_zero _)) (fun z => z.2)) e)
      have I' := nl_abort I hl hm (show k' ≤ w by omega) d2
      obtain ⟨r, u, v', R', hX, hY⟩ := nl_wake NT NO NA b k' L ac _ pa _ ln lr wo wk wp q' bs se _ _ ve hi ow ob kd op rs (by omega) I'
      obtain ⟨x1, x2, x3, x4, x5, x6, x7, x8, x9, x10, x11, x12, x13, x14, x15, x16, x17, x18, x19, x20, x21, x22⟩ := u
      obtain ⟨y1, y2, y3, y4, y5, y6, y7, y8, y9, y10, y11, y12, y13, y14, y15, y16, y17, y18⟩ := v'
      refine ⟨w + 1, d3 _ (nl_Xdl hN (hX _ ?_))⟩
      show wpY_abort _ _ _
      unfold wpY_abort
      have k := nl_Yab_l (NT := NT) (NO := NO) (NA := NA) (w := w) (L := L) (wo := wo) (wk := wk) (wp := wp) (bs := bs) (ow := ow) (ob := ob) (kd := kd) (op := op) (rs := rs) (st := st) (q := q) hb T ht hm ⟨w + 1, d4 _ (hY (fun r' v => r' = r ∧ nl_Rel _ v) ⟨rfl, R'⟩)⟩ b 0 (by omega)
      rw [nl_ab_0] at k
      exact nl_Yk1 ht hb (br_f (by decide) (nl_Yl ht hb (fun _ => br_f (by decide) ⟨b + 1, k⟩) (fun z => by rw [hl] at z; exact nomatch z)))
    · unfold wpY_abort
      exact nl_Yk1 ht hb (br_f (by decide) (nl_Yl ht hb (fun z => by rw [hl] at z; exact nomatch z) (fun _ => br_t rfl ⟨rfl, R⟩)))
end
section
section
variable {NT NO NA b w L ac m : Nat} {QS : Nat → Prop} {lm : Int32} {pa st ln lr wo wk wp q bs se rd wr ve hi ow ob kd op rs : Nat → Int32}
theorem nl_Yar29 {post : Int32 → SY → Prop} (I : nl_I NT NO NA b L ac m QS lm pa st ln lr wo wk q bs se rd wr ve hi ow ob kd op rs) (h : post 0 (nI NT, nI NO, nI NA, nI 0, nI 0, nI 0, nl_ar bs se NO, pa, st, wo, wk, wp, q, ow, ob, kd, op, rs)) : ∀ d x, x + d = NO → wY_archive_29 post (nI NT) (nI NO) (nI NA) (nI b) (nI w) (nI L) (d + 1) (nI x) (nl_ar bs se x) pa st wo wk wp q ow ob kd op rs := by
  have hL := nl_L80 I
  obtain ⟨⟨z1, z2, z3, z4, z5, z6, z7⟩, T, S, LV, HI, EN, OB, LR, QU, WA⟩ := I
  intro d
  induction d with
  | zero =>
    intro x hx
    have e : x = NO := by omega
    subst e
    exact br_t (nI_le (by omega) (by omega)) h
  | succ d ih =>
    intro x hx
    have k := ih (x + 1) (by omega)
    rw [nl_ar_s] at k
    have e1 : nl_ar bs se x x = bs x := if_neg (by omega)
    have v : vp_in (nI x) 8 := vp_in_nI (by omega) (by omega)
    refine br_f (nI_ge (by omega) (by omega)) (nl_Yvw (bs := nl_ar bs se x) (t := none) (by omega) T EN hL (fun a z => nomatch z) (by omega) ⟨v, ?_⟩)
    rw [e1, ← (OB x (by omega)).2.2.2.1, nI_clamp (by omega)]
    exact nm_e (nm_r (nI_1 x) k)
theorem nl_Yar2 {post : Int32 → SY → Prop} (hb : b ≤ 16) (hno : ∀ s, s < b → nl_lv st s = false) (h : ∃ n, wY_archive_29 post (nI NT) (nI NO) (nI NA) (nI b) (nI w) (nI L) n 0 bs pa st wo wk wp q ow ob kd op rs) : ∀ d s, s + d = b → wY_archive_2 post (nI NT) (nI NO) (nI NA) (nI b) (nI w) (nI L) bs pa st wo wk wp q ow ob kd op rs (d + 1) (nI s) := by
  intro d
  induction d with
  | zero =>
    intro s hs
    have e : s = b := by omega
    subst e
    exact br_t (nI_le (by omega) (by omega)) h
  | succ d ih =>
    intro s hs
    refine br_f (nI_ge (by omega) (by omega)) (nl_Yl (by omega) hb (fun hl => ?_) (fun _ => br_t rfl (nm_r (nI_1 s) (ih (s + 1) (by omega)))))
    rw [hno s (by omega)] at hl; exact nomatch hl
theorem nl_Yar2f {post : Int32 → SY → Prop} (hb : b ≤ 16) (h : post (-9) (nI NT, nI NO, nI NA, nI b, nI w, nI L, bs, pa, st, wo, wk, wp, q, ow, ob, kd, op, rs)) : ∀ d s, s + d = b → (∃ a, s ≤ a ∧ a < b ∧ nl_lv st a = true) → wY_archive_2 post (nI NT) (nI NO) (nI NA) (nI b) (nI w) (nI L) bs pa st wo wk wp q ow ob kd op rs (d + 1) (nI s) := by
  intro d
  induction d with
  | zero =>
    intro s hs hex
    obtain ⟨a, h1, h2, _⟩ := hex
    omega
  | succ d ih =>
    intro s hs hex
    refine br_f (nI_ge (by omega) (by omega)) (nl_Yl (by omega) hb (fun hl => br_f (by decide) h) (fun hl => br_t rfl (nm_r (nI_1 s) (ih (s + 1) (by omega) ?_))))
    obtain ⟨a, h1, h2, h3⟩ := hex
    refine ⟨a, ?_, h2, h3⟩
    by_cases e : a = s
    · rw [e, hl] at h3; exact nomatch h3
    · omega
theorem nl_a_archive (I : nl_I NT NO NA b L ac w (fun j => j < w) lm pa st ln lr wo wk q bs se rd wr ve hi ow ob kd op rs) : ∃ (r : Int32) (u : SX) (v : SY), nl_Rel u v ∧ (∀ post : Int32 → SX → Prop, post r u → wpX_archive post (nI NT, nI NO, nI NA, nI b, lm, nI w, nI L, nI ac, pa, st, ln, lr, wo, wk, wp, q, bs, se, rd, wr, ve, hi)) ∧ (∀ post : Int32 → SY → Prop, post r v → wpY_archive post (nI NT, nI NO, nI NA, nI b, nI w, nI L, bs, pa, st, wo, wk, wp, q, ow, ob, kd, op, rs)) := by
  have R := nl_in NT NO NA b w L ac lm pa st ln lr wo wk wp q bs se rd wr ve hi ow ob kd op rs I
  obtain ⟨hb, hN⟩ := nl_b16 I
  have LV := I.2.2.2.1
  have QU := I.2.2.2.2.2.2.2.2.1
  by_cases c : lm = 0
  · have hno : ∀ s, s < b → nl_lv st s = false := fun s hs => by
      have k := LV s
      rw [c, b_0, decide_eq_true hs, Bool.true_and] at k
      exact k.symm
    have hw : w = 0 := by
      rcases Nat.eq_zero_or_pos w with e | e
      · exact e
      · obtain ⟨t, h1, _, h3⟩ := QU.1 0 e
        have k := hno t h1
        rw [nl_lv_i.mpr (Or.inr h3)] at k
        exact nomatch k
    have I' := nl_archive I c (m' := 0) (QS' := fun j => j < 0) (bs' := nl_ar bs se NO) (Nat.zero_le _) (fun j => Nat.not_lt_zero j) (fun x hx => if_pos hx)
    subst hw
    refine ⟨0, _, _, nl_in NT NO NA 0 0 0 0 lm pa st ln lr wo wk wp q _ se rd wr ve hi ow ob kd op rs I', fun post h => nl_Xar hN (fun _ => h) (fun z => absurd c z), fun post h => ⟨b + 1, nl_Yar2 hb hno ⟨NO + 1, ?_⟩ b 0 (by omega)⟩⟩
    have k := nl_Yar29 (w := 0) (wp := wp) (post := post) I h NO 0 (by omega)
    rw [nl_ar_0] at k
    exact k
  · refine ⟨-9, _, _, R, fun post h => nl_Xar hN (fun z => absurd z c) (fun _ => h), fun post h => ⟨b + 1, nl_Yar2f hb h b 0 (by omega) ?_⟩⟩
    obtain ⟨s, hs⟩ : ∃ s, bt lm s = true := Classical.byContradiction (fun z => c (nl_m0.mpr (fun i => nl_nt (fun k => z ⟨i, k⟩))))
    rw [LV s, Bool.and_eq_true, decide_eq_true_eq] at hs
    exact ⟨s, Nat.zero_le _, hs.1, hs.2⟩
end
theorem nl_clamp (p lo hi : Int32) (l h : Nat) (el : lo = nI l) (eh : hi = nI h) (hlh : l ≤ h) (hh : h < 2 ^ 31) : ∃ n, l ≤ n ∧ n ≤ h ∧ (∀ (post : Int32 → Prop) (u : SX), post (nI n) → wpX_clamp post u p lo hi) ∧ (∀ (post : Int32 → Prop) (u : SY), post (nI n) → wpY_clamp post u p lo hi) := by
  subst el eh
  by_cases c1 : nI l ≤ p
  · by_cases c2 : p ≤ nI h
    · have c0 : ¬ p < 0 := fun z => Int32.lt_irrefl (Int32.lt_of_lt_of_le z (Int32.le_trans (nI_pos' (by omega)) c1))
      obtain ⟨n, hn, rfl⟩ := nI_of c0
      refine ⟨n, (nI_leI (by omega) hn).mp c1, (nI_leI hn hh).mp c2, fun post u hp => ?_, fun post u hp => ?_⟩
      · obtain ⟨x1, x2, x3, x4, x5, x6, x7, x8, x9, x10, x11, x12, x13, x14, x15, x16, x17, x18, x19, x20, x21, x22⟩ := u
        exact br_t c1 (br_t c2 hp)
      · obtain ⟨y1, y2, y3, y4, y5, y6, y7, y8, y9, y10, y11, y12, y13, y14, y15, y16, y17, y18⟩ := u
        exact br_t c1 (br_t c2 hp)
    · refine ⟨h, hlh, Nat.le_refl h, fun post u hp => ?_, fun post u hp => ?_⟩
      · obtain ⟨x1, x2, x3, x4, x5, x6, x7, x8, x9, x10, x11, x12, x13, x14, x15, x16, x17, x18, x19, x20, x21, x22⟩ := u
        exact br_t c1 (br_f c2 hp)
      · obtain ⟨y1, y2, y3, y4, y5, y6, y7, y8, y9, y10, y11, y12, y13, y14, y15, y16, y17, y18⟩ := u
        exact br_t c1 (br_f c2 hp)
  · refine ⟨l, Nat.le_refl l, hlh, fun post u hp => ?_, fun post u hp => ?_⟩
    · obtain ⟨x1, x2, x3, x4, x5, x6, x7, x8, x9, x10, x11, x12, x13, x14, x15, x16, x17, x18, x19, x20, x21, x22⟩ := u
      exact br_f c1 hp
    · obtain ⟨y1, y2, y3, y4, y5, y6, y7, y8, y9, y10, y11, y12, y13, y14, y15, y16, y17, y18⟩ := u
      exact br_f c1 hp
theorem nl_I0 (NT NO NA : Nat) (h1 : NT ≤ 16) (h2 : NO ≤ 8) (h3 : NA ≤ 64) : nl_I NT NO NA 0 0 0 0 (fun j => j < 0) 0 (fun _ => 0) (fun _ => 0) (fun _ => 0) (fun _ => 0) (fun _ => 0) (fun _ => 0) (fun _ => 0) (fun _ => 0) (fun _ => 0) (fun _ => 0) (fun _ => 0) (fun _ => 0) (fun _ => 0) (fun _ => 0) (fun _ => 0) (fun _ => 0) (fun _ => 0) (fun _ => 0) := by
  refine ⟨⟨Nat.zero_le _, h1, h2, h3, rfl, Nat.zero_le _, Nat.le_refl 0⟩, ?_, ⟨?_, ?_⟩, ?_, ?_, ?_, ?_, ?_, ⟨?_, ?_⟩, ?_⟩
  · intro t ht; exact absurd ht (Nat.not_lt_zero _)
  · intro t ht; exact absurd ht (Nat.not_lt_zero _)
  · intro t j ht; exact absurd ht (Nat.not_lt_zero _)
  · intro s; rw [b_0, decide_eq_false (Nat.not_lt_zero _), Bool.false_and]
  · intro i ht; exact absurd ht (Nat.not_lt_zero _)
  · intro i ht; exact absurd ht (Nat.not_lt_zero _)
  · intro y hy
    refine ⟨fun h => ⟨fun z => ?_, ?_⟩, fun h => ⟨fun z => ?_, ?_⟩, fun g h hg => ?_, rfl, fun h hh => ?_⟩
    · rw [b_0] at z; exact nomatch z
    · rintro ⟨i, hi, _⟩; exact absurd hi (Nat.not_lt_zero _)
    · rw [b_0] at z; exact nomatch z
    · rintro ⟨i, hi, _⟩; exact absurd hi (Nat.not_lt_zero _)
    · rw [b_0] at hg; exact nomatch hg
    · rw [b_0] at hh; exact nomatch hh
  · intro t ht; exact absurd ht (Nat.not_lt_zero _)
  · intro j hj; exact absurd hj (Nat.not_lt_zero _)
  · intro i j hj; exact absurd hj (Nat.not_lt_zero _)
  · intro t ht; exact absurd ht (Nat.not_lt_zero _)
end
section
theorem i_vc0 (k0 : Int32) (k1 : Int32) (k2 : Int32) : wpX_init (fun u => wpY_init (fun v => i_Rel 3 u v) k0 k1 k2) k0 k1 k2 := by
  obtain ⟨NT, _, a2, aX, aY⟩ := nl_clamp k0 2 16 2 16 rfl rfl (by omega) (by omega)
  obtain ⟨NO, _, b2, bX, bY⟩ := nl_clamp k1 1 8 1 8 rfl rfl (by omega) (by omega)
  obtain ⟨NA, _, c2, cX, cY⟩ := nl_clamp k2 4 64 4 64 rfl rfl (by omega) (by omega)
  unfold wpX_init
  refine aX _ _ (bX _ _ (cX _ _ ?_))
  unfold wpY_init
  refine aY _ _ (bY _ _ (cY _ _ ?_))
  exact nl_in NT NO NA 0 0 0 0 0 (fun _ => 0) (fun _ => 0) (fun _ => 0) (fun _ => 0) (fun _ => 0) (fun _ => 0) (fun _ => 0) (fun _ => 0) (fun _ => 0) (fun _ => 0) (fun _ => 0) (fun _ => 0) (fun _ => 0) (fun _ => 0) (fun _ => 0) (fun _ => 0) (fun _ => 0) (fun _ => 0) (fun _ => 0) (nl_I0 NT NO NA a2 b2 c2)
theorem i_vc_begin {k : Nat} {u : SX} {v : SY} (I : i_Rel k u v) (hk : k + 5 ≤ 2563) (v1 : Int32) : wpX_begin (fun r u' => wpY_begin (fun r' v' => r' = r ∧ i_Rel (k + 5) u' v') v v1) u v1 := by
  refine nl_el (P := fun u v => wpX_begin (fun r u' => wpY_begin (fun r' v' => r' = r ∧ i_Rel (k + 5) u' v') v v1) u v1) ?_ I
  intro NT NO NA b w L ac lm pa st ln lr wo wk wp q bs se rd wr ve hi ow ob kd op rs I
  obtain ⟨r, u', v', R, hX, hY⟩ := nl_a_begin (wp := wp) I v1
  exact hX _ (hY _ ⟨rfl, R⟩)
theorem i_vc_request {k : Nat} {u : SX} {v : SY} (I : i_Rel k u v) (hk : k + 5 ≤ 2563) (v1 : Int32) (v2 : Int32) (v3 : Int32) (v4 : Int32) : wpX_request (fun r u' => wpY_request (fun r' v' => r' = r ∧ i_Rel (k + 5) u' v') v v1 v2 v3 v4) u v1 v2 v3 v4 := by
  refine nl_el (P := fun u v => wpX_request (fun r u' => wpY_request (fun r' v' => r' = r ∧ i_Rel (k + 5) u' v') v v1 v2 v3 v4) u v1 v2 v3 v4) ?_ I
  intro NT NO NA b w L ac lm pa st ln lr wo wk wp q bs se rd wr ve hi ow ob kd op rs I
  obtain ⟨r, u', v', R, hX, hY⟩ := nl_a_request (wp := wp) I v1 v2 v3 v4
  exact hX _ (hY _ ⟨rfl, R⟩)
theorem i_vc_archive {k : Nat} {u : SX} {v : SY} (I : i_Rel k u v) (hk : k + 5 ≤ 2563) : wpX_archive (fun r u' => wpY_archive (fun r' v' => r' = r ∧ i_Rel (k + 5) u' v') v) u := by
  refine nl_el (P := fun u v => wpX_archive (fun r u' => wpY_archive (fun r' v' => r' = r ∧ i_Rel (k + 5) u' v') v) u) ?_ I
  intro NT NO NA b w L ac lm pa st ln lr wo wk wp q bs se rd wr ve hi ow ob kd op rs I
  obtain ⟨r, u', v', R, hX, hY⟩ := nl_a_archive (wp := wp) I
  exact hX _ (hY _ ⟨rfl, R⟩)
theorem i_vc_commit {k : Nat} {u : SX} {v : SY} (I : i_Rel k u v) (hk : k + 5 ≤ 2563) (v1 : Int32) : wpX_commit (fun r u' => wpY_commit (fun r' v' => r' = r ∧ i_Rel (k + 5) u' v') v v1) u v1 := by
  refine nl_el (P := fun u v => wpX_commit (fun r u' => wpY_commit (fun r' v' => r' = r ∧ i_Rel (k + 5) u' v') v v1) u v1) ?_ I
  intro NT NO NA b w L ac lm pa st ln lr wo wk wp q bs se rd wr ve hi ow ob kd op rs I
  exact nl_a_commit NT NO NA b w L ac lm pa st ln lr wo wk wp q bs se rd wr ve hi ow ob kd op rs I v1
theorem i_vc_abort {k : Nat} {u : SX} {v : SY} (I : i_Rel k u v) (hk : k + 5 ≤ 2563) (v1 : Int32) : wpX_abort (fun r u' => wpY_abort (fun r' v' => r' = r ∧ i_Rel (k + 5) u' v') v v1) u v1 := by
  refine nl_el (P := fun u v => wpX_abort (fun r u' => wpY_abort (fun r' v' => r' = r ∧ i_Rel (k + 5) u' v') v v1) u v1) ?_ I
  intro NT NO NA b w L ac lm pa st ln lr wo wk wp q bs se rd wr ve hi ow ob kd op rs I
  exact nl_a_abort NT NO NA b w L ac lm pa st ln lr wo wk wp q bs se rd wr ve hi ow ob kd op rs I v1
theorem i_vc_state {k : Nat} {u : SX} {v : SY} (I : i_Rel k u v) (hk : k + 5 ≤ 2563) (v1 : Int32) : wpX_state (fun r => wpY_state (fun r' => r' = r ∧ i_Rel (k + 5) u v) v v1) u v1 := by
  refine nl_el (P := fun u v => wpX_state (fun r => wpY_state (fun r' => r' = r ∧ i_Rel (k + 5) u v) v v1) u v1) ?_ I
  intro NT NO NA b w L ac lm pa st ln lr wo wk wp q bs se rd wr ve hi ow ob kd op rs I
  obtain ⟨r, hX, hY⟩ := nl_q_state (w := w) (wp := wp) I v1
  exact hX _ (hY _ ⟨rfl, nl_in NT NO NA b w L ac lm pa st ln lr wo wk wp q bs se rd wr ve hi ow ob kd op rs I⟩)
theorem i_vc_parent {k : Nat} {u : SX} {v : SY} (I : i_Rel k u v) (hk : k + 5 ≤ 2563) (v1 : Int32) : wpX_parent (fun r => wpY_parent (fun r' => r' = r ∧ i_Rel (k + 5) u v) v v1) u v1 := by
  refine nl_el (P := fun u v => wpX_parent (fun r => wpY_parent (fun r' => r' = r ∧ i_Rel (k + 5) u v) v v1) u v1) ?_ I
  intro NT NO NA b w L ac lm pa st ln lr wo wk wp q bs se rd wr ve hi ow ob kd op rs I
  obtain ⟨r, hX, hY⟩ := nl_q_parent (w := w) (wp := wp) I v1
  exact hX _ (hY _ ⟨rfl, nl_in NT NO NA b w L ac lm pa st ln lr wo wk wp q bs se rd wr ve hi ow ob kd op rs I⟩)
theorem i_vc_lock {k : Nat} {u : SX} {v : SY} (I : i_Rel k u v) (hk : k + 5 ≤ 2563) (v1 : Int32) (v2 : Int32) : wpX_lock (fun r => wpY_lock (fun r' => r' = r ∧ i_Rel (k + 5) u v) v v1 v2) u v1 v2 := by
  refine nl_el (P := fun u v => wpX_lock (fun r => wpY_lock (fun r' => r' = r ∧ i_Rel (k + 5) u v) v v1 v2) u v1 v2) ?_ I
  intro NT NO NA b w L ac lm pa st ln lr wo wk wp q bs se rd wr ve hi ow ob kd op rs I
  obtain ⟨r, hX, hY⟩ := nl_q_lock (w := w) (wp := wp) I v1 v2
  exact hX _ (hY _ ⟨rfl, nl_in NT NO NA b w L ac lm pa st ln lr wo wk wp q bs se rd wr ve hi ow ob kd op rs I⟩)
theorem i_vc_view {k : Nat} {u : SX} {v : SY} (I : i_Rel k u v) (hk : k + 5 ≤ 2563) (v1 : Int32) (v2 : Int32) : wpX_view (fun r => wpY_view (fun r' => r' = r ∧ i_Rel (k + 5) u v) v v1 v2) u v1 v2 := by
  refine nl_el (P := fun u v => wpX_view (fun r => wpY_view (fun r' => r' = r ∧ i_Rel (k + 5) u v) v v1 v2) u v1 v2) ?_ I
  intro NT NO NA b w L ac lm pa st ln lr wo wk wp q bs se rd wr ve hi ow ob kd op rs I
  obtain ⟨r, hX, hY⟩ := nl_q_view (w := w) (wp := wp) I v1 v2
  exact hX _ (hY _ ⟨rfl, nl_in NT NO NA b w L ac lm pa st ln lr wo wk wp q bs se rd wr ve hi ow ob kd op rs I⟩)
theorem i_vc_result {k : Nat} {u : SX} {v : SY} (I : i_Rel k u v) (hk : k + 5 ≤ 2563) (v1 : Int32) : wpX_result (fun r => wpY_result (fun r' => r' = r ∧ i_Rel (k + 5) u v) v v1) u v1 := by
  refine nl_el (P := fun u v => wpX_result (fun r => wpY_result (fun r' => r' = r ∧ i_Rel (k + 5) u v) v v1) u v1) ?_ I
  intro NT NO NA b w L ac lm pa st ln lr wo wk wp q bs se rd wr ve hi ow ob kd op rs I
  obtain ⟨r, hX, hY⟩ := nl_q_result (w := w) (wp := wp) I v1
  exact hX _ (hY _ ⟨rfl, nl_in NT NO NA b w L ac lm pa st ln lr wo wk wp q bs se rd wr ve hi ow ob kd op rs I⟩)
theorem i_vc_waiter {k : Nat} {u : SX} {v : SY} (I : i_Rel k u v) (hk : k + 5 ≤ 2563) (v1 : Int32) : wpX_waiter (fun r => wpY_waiter (fun r' => r' = r ∧ i_Rel (k + 5) u v) v v1) u v1 := by
  refine nl_el (P := fun u v => wpX_waiter (fun r => wpY_waiter (fun r' => r' = r ∧ i_Rel (k + 5) u v) v v1) u v1) ?_ I
  intro NT NO NA b w L ac lm pa st ln lr wo wk wp q bs se rd wr ve hi ow ob kd op rs I
  obtain ⟨r, hX, hY⟩ := nl_q_waiter (w := w) (wp := wp) I (by have := (nl_w16 I).1; have := nl_b16 I; omega) v1
  exact hX _ (hY _ ⟨rfl, nl_in NT NO NA b w L ac lm pa st ln lr wo wk wp q bs se rd wr ve hi ow ob kd op rs I⟩)
theorem i_vc_pending {k : Nat} {u : SX} {v : SY} (I : i_Rel k u v) (hk : k + 5 ≤ 2563) (v1 : Int32) (v2 : Int32) : wpX_pending (fun r => wpY_pending (fun r' => r' = r ∧ i_Rel (k + 5) u v) v v1 v2) u v1 v2 := by
  refine nl_el (P := fun u v => wpX_pending (fun r => wpY_pending (fun r' => r' = r ∧ i_Rel (k + 5) u v) v v1 v2) u v1 v2) ?_ I
  intro NT NO NA b w L ac lm pa st ln lr wo wk wp q bs se rd wr ve hi ow ob kd op rs I
  obtain ⟨r, hX, hY⟩ := nl_q_pending (w := w) (wp := wp) I v1 v2
  exact hX _ (hY _ ⟨rfl, nl_in NT NO NA b w L ac lm pa st ln lr wo wk wp q bs se rd wr ve hi ow ob kd op rs I⟩)
theorem i_vc_blocker {k : Nat} {u : SX} {v : SY} (I : i_Rel k u v) (hk : k + 5 ≤ 2563) (v1 : Int32) : wpX_blocker (fun r => wpY_blocker (fun r' => r' = r ∧ i_Rel (k + 5) u v) v v1) u v1 := by
  refine nl_el (P := fun u v => wpX_blocker (fun r => wpY_blocker (fun r' => r' = r ∧ i_Rel (k + 5) u v) v v1) u v1) ?_ I
  intro NT NO NA b w L ac lm pa st ln lr wo wk wp q bs se rd wr ve hi ow ob kd op rs I
  obtain ⟨r, hX, hY⟩ := nl_q_blocker (w := w) (wp := wp) I v1
  exact hX _ (hY _ ⟨rfl, nl_in NT NO NA b w L ac lm pa st ln lr wo wk wp q bs se rd wr ve hi ow ob kd op rs I⟩)
theorem i_vc_historyLength {k : Nat} {u : SX} {v : SY} (I : i_Rel k u v) (hk : k + 5 ≤ 2563) : wpX_historyLength (fun r => wpY_historyLength (fun r' => r' = r ∧ i_Rel (k + 5) u v) v) u := by
  refine nl_el (P := fun u v => wpX_historyLength (fun r => wpY_historyLength (fun r' => r' = r ∧ i_Rel (k + 5) u v) v) u) ?_ I
  intro NT NO NA b w L ac lm pa st ln lr wo wk wp q bs se rd wr ve hi ow ob kd op rs I
  obtain ⟨r, hX, hY⟩ := nl_q_historyLength (w := w) (wp := wp) I
  exact hX _ (hY _ ⟨rfl, nl_in NT NO NA b w L ac lm pa st ln lr wo wk wp q bs se rd wr ve hi ow ob kd op rs I⟩)
theorem i_vc_entry {k : Nat} {u : SX} {v : SY} (I : i_Rel k u v) (hk : k + 5 ≤ 2563) (v1 : Int32) (v2 : Int32) : wpX_entry (fun r => wpY_entry (fun r' => r' = r ∧ i_Rel (k + 5) u v) v v1 v2) u v1 v2 := by
  refine nl_el (P := fun u v => wpX_entry (fun r => wpY_entry (fun r' => r' = r ∧ i_Rel (k + 5) u v) v v1 v2) u v1 v2) ?_ I
  intro NT NO NA b w L ac lm pa st ln lr wo wk wp q bs se rd wr ve hi ow ob kd op rs I
  obtain ⟨r, hX, hY⟩ := nl_q_entry (w := w) (wp := wp) I v1 v2
  exact hX _ (hY _ ⟨rfl, nl_in NT NO NA b w L ac lm pa st ln lr wo wk wp q bs se rd wr ve hi ow ob kd op rs I⟩)
theorem i_vc_base {k : Nat} {u : SX} {v : SY} (I : i_Rel k u v) (hk : k + 5 ≤ 2563) (v1 : Int32) : wpX_base (fun r => wpY_base (fun r' => r' = r ∧ i_Rel (k + 5) u v) v v1) u v1 := by
  refine nl_el (P := fun u v => wpX_base (fun r => wpY_base (fun r' => r' = r ∧ i_Rel (k + 5) u v) v v1) u v1) ?_ I
  intro NT NO NA b w L ac lm pa st ln lr wo wk wp q bs se rd wr ve hi ow ob kd op rs I
  obtain ⟨r, hX, hY⟩ := nl_q_base (w := w) (wp := wp) I v1
  exact hX _ (hY _ ⟨rfl, nl_in NT NO NA b w L ac lm pa st ln lr wo wk wp q bs se rd wr ve hi ow ob kd op rs I⟩)
end
