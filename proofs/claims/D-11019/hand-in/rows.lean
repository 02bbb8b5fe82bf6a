section
/-! the pure picture: edges (begin, end, gain + 6), needs 0..13, the law's operator F and its least fixpoint -/
def eg_enc (c : Nat) : Nat := if c = 13 then 99 else c
def eg_ask (c g : Nat) : Nat := if c = 13 then 13 else min (c + 6 - g) 13
def eg_st (m : Bool) (r : Option Nat) (w : Nat) : Option Nat := match r with
  | none => some w
  | some a => some (if m = true then min a w else max a w)
def eg_fs (m : Bool) (N : Nat → Nat) (v : Nat) (r : Option Nat) (x : Nat × Nat × Nat) : Option Nat := if x.1 = v then eg_st m r (eg_ask (N x.2.1) x.2.2) else r
def eg_F (m : Nat → Bool) (es : List (Nat × Nat × Nat)) (N : Nat → Nat) (v : Nat) : Nat := (es.foldl (eg_fs (m v) N v) none).getD 0
def eg_E (es : List (Nat × Nat × Nat)) : Prop := ∀ x, x ∈ es → x.1 < 3 ∧ x.2.1 < 3 ∧ x.2.2 ≤ 12
theorem eg_ask_le (c g : Nat) : eg_ask c g ≤ 13 := by
  unfold eg_ask; split <;> omega
theorem eg_ask_mono {c c' : Nat} (g : Nat) (h : c ≤ c') (h' : c' ≤ 13) : eg_ask c g ≤ eg_ask c' g := by
  unfold eg_ask; split <;> split <;> omega
def eg_R (r r' : Option Nat) : Prop := (r = none ∧ r' = none) ∨ ∃ a b, r = some a ∧ r' = some b ∧ a ≤ b
theorem eg_st_R {m : Bool} {r r' : Option Nat} {w w' : Nat} (h : eg_R r r') (hw : w ≤ w') : eg_R (eg_st m r w) (eg_st m r' w') := by
  rcases h with ⟨h1, h2⟩ | ⟨a, b, h1, h2, h3⟩
  · rw [h1, h2]
    exact Or.inr ⟨w, w', rfl, rfl, hw⟩
  · rw [h1, h2]
    refine Or.inr ⟨_, _, rfl, rfl, ?_⟩
    cases m
    · exact (show max a w ≤ max b w' by omega)
    · exact (show min a w ≤ min b w' by omega)
theorem eg_fm {m : Bool} {v : Nat} {N N' : Nat → Nat} (h : ∀ u, u < 3 → N u ≤ N' u) (h' : ∀ u, u < 3 → N' u ≤ 13) :
    ∀ (es : List (Nat × Nat × Nat)) (r r' : Option Nat), eg_E es → eg_R r r' → eg_R (es.foldl (eg_fs m N v) r) (es.foldl (eg_fs m N' v) r') := by
  intro es
  induction es with
  | nil => intro r r' _ hr; exact hr
  | cons x l ih =>
    intro r r' hE hr
    rw [List.foldl_cons, List.foldl_cons]
    refine ih _ _ (fun y hy => hE y (List.mem_cons_of_mem _ hy)) ?_
    obtain ⟨_, h2, _⟩ := hE x List.mem_cons_self
    unfold eg_fs
    by_cases e : x.1 = v
    · rw [if_pos e, if_pos e]
      exact eg_st_R hr (eg_ask_mono _ (h _ h2) (h' _ h2))
    · rw [if_neg e, if_neg e]
      exact hr
theorem eg_st_le {m : Bool} {r : Option Nat} {w : Nat} (h : ∀ a, r = some a → a ≤ 13) (hw : w ≤ 13) : ∀ a, eg_st m r w = some a → a ≤ 13 := by
  intro a ha
  cases r with
  | none =>
    have : w = a := Option.some.inj ha
    omega
  | some b =>
    have h1 := h b rfl
    have h2 : (if m = true then min b w else max b w) = a := Option.some.inj ha
    cases m
    · rw [if_neg (by decide)] at h2; omega
    · rw [if_pos rfl] at h2; omega
theorem eg_fs_le {m : Bool} {N : Nat → Nat} {v : Nat} {r : Option Nat} {x : Nat × Nat × Nat} (h : ∀ a, r = some a → a ≤ 13) : ∀ a, eg_fs m N v r x = some a → a ≤ 13 := by
  unfold eg_fs
  by_cases e : x.1 = v
  · rw [if_pos e]; exact eg_st_le h (eg_ask_le _ _)
  · rw [if_neg e]; exact h
theorem eg_fl_le {m : Bool} {N : Nat → Nat} {v : Nat} : ∀ (es : List (Nat × Nat × Nat)) (r : Option Nat), (∀ a, r = some a → a ≤ 13) → ∀ a, es.foldl (eg_fs m N v) r = some a → a ≤ 13 := by
  intro es
  induction es with
  | nil => intro r h; exact h
  | cons x l ih =>
    intro r h
    rw [List.foldl_cons]
    exact ih _ (eg_fs_le h)
theorem eg_f0_le {m : Bool} {N : Nat → Nat} {v : Nat} (es : List (Nat × Nat × Nat)) : ∀ a, es.foldl (eg_fs m N v) none = some a → a ≤ 13 :=
  eg_fl_le es none (fun a h => absurd h.symm (Option.some_ne_none a))
theorem eg_fc {m : Bool} {v : Nat} {N N' : Nat → Nat} : ∀ (es : List (Nat × Nat × Nat)) (r : Option Nat), (∀ x, x ∈ es → x.1 = v → N x.2.1 = N' x.2.1) → es.foldl (eg_fs m N v) r = es.foldl (eg_fs m N' v) r := by
  intro es
  induction es with
  | nil => intro r _; rfl
  | cons x l ih =>
    intro r h
    rw [List.foldl_cons, List.foldl_cons]
    have e : eg_fs m N v r x = eg_fs m N' v r x := by
      unfold eg_fs
      by_cases e : x.1 = v
      · rw [if_pos e, if_pos e, h x List.mem_cons_self e]
      · rw [if_neg e, if_neg e]
    rw [e]
    exact ih _ (fun y hy => h y (List.mem_cons_of_mem _ hy))
theorem eg_Fm {m : Nat → Bool} {es : List (Nat × Nat × Nat)} {N N' : Nat → Nat} (hE : eg_E es) (h : ∀ u, u < 3 → N u ≤ N' u) (h' : ∀ u, u < 3 → N' u ≤ 13) (v : Nat) : eg_F m es N v ≤ eg_F m es N' v := by
  unfold eg_F
  rcases eg_fm (m := m v) (v := v) h h' es none none hE (Or.inl ⟨rfl, rfl⟩) with ⟨h1, h2⟩ | ⟨a, b, h1, h2, h3⟩
  · rw [h1, h2]; exact Nat.le_refl _
  · rw [h1, h2]; exact h3
theorem eg_Fb {m : Nat → Bool} {es : List (Nat × Nat × Nat)} {N : Nat → Nat} (v : Nat) : eg_F m es N v ≤ 13 := by
  unfold eg_F
  cases e : es.foldl (eg_fs (m v) N v) none with
  | none => exact Nat.zero_le _
  | some a => exact eg_f0_le es a e
theorem eg_Fc {m : Nat → Bool} {es : List (Nat × Nat × Nat)} {N N' : Nat → Nat} (v : Nat) (h : ∀ x, x ∈ es → x.1 = v → N x.2.1 = N' x.2.1) : eg_F m es N v = eg_F m es N' v := by
  unfold eg_F
  rw [eg_fc es none h]
def eg_it (m : Nat → Bool) (es : List (Nat × Nat × Nat)) : Nat → Nat → Nat
  | 0 => fun _ => 0
  | k + 1 => eg_F m es (eg_it m es k)
theorem eg_it_le {m : Nat → Bool} {es : List (Nat × Nat × Nat)} (k v : Nat) : eg_it m es k v ≤ 13 := by
  cases k with
  | zero => exact Nat.zero_le _
  | succ k => exact eg_Fb v
theorem eg_it_up {m : Nat → Bool} {es : List (Nat × Nat × Nat)} (hE : eg_E es) : ∀ k v, eg_it m es k v ≤ eg_it m es (k + 1) v := by
  intro k
  induction k with
  | zero => intro v; exact Nat.zero_le _
  | succ k ih =>
    intro v
    exact eg_Fm hE (fun u _ => ih u) (fun u _ => eg_it_le _ _) v
theorem eg_it_fix {m : Nat → Bool} {es : List (Nat × Nat × Nat)} (hE : eg_E es) : ∀ k, (∀ v, v < 3 → eg_F m es (eg_it m es k) v = eg_it m es k v) ∨ k ≤ eg_it m es k 0 + eg_it m es k 1 + eg_it m es k 2 := by
  intro k
  induction k with
  | zero => exact Or.inr (Nat.zero_le _)
  | succ k ih =>
    rcases ih with h | h
    · refine Or.inl (fun v hv => ?_)
      show eg_F m es (eg_F m es (eg_it m es k)) v = eg_F m es (eg_it m es k) v
      exact eg_Fc v (fun x hx _ => h _ (hE x hx).2.1)
    · have u0 := eg_it_up (m := m) hE k 0
      have u1 := eg_it_up (m := m) hE k 1
      have u2 := eg_it_up (m := m) hE k 2
      by_cases e : eg_it m es k 0 = eg_it m es (k + 1) 0 ∧ eg_it m es k 1 = eg_it m es (k + 1) 1 ∧ eg_it m es k 2 = eg_it m es (k + 1) 2
      · obtain ⟨e0, e1, e2⟩ := e
        have e' : ∀ v, v < 3 → eg_it m es (k + 1) v = eg_it m es k v := fun v hv => co_3 (P := fun v => eg_it m es (k + 1) v = eg_it m es k v) e0.symm e1.symm e2.symm hv
        refine Or.inl (fun v hv => ?_)
        show eg_F m es (eg_it m es (k + 1)) v = eg_F m es (eg_it m es k) v
        exact eg_Fc v (fun x hx _ => e' _ (hE x hx).2.1)
      · right
        omega
/-- what the law computes -/
def eg_L (m : Nat → Bool) (es : List (Nat × Nat × Nat)) : Nat → Nat := eg_it m es 64
theorem eg_L_le {m : Nat → Bool} {es : List (Nat × Nat × Nat)} (v : Nat) : eg_L m es v ≤ 13 := eg_it_le 64 v
theorem eg_L_fix {m : Nat → Bool} {es : List (Nat × Nat × Nat)} (hE : eg_E es) (v : Nat) (hv : v < 3) : eg_F m es (eg_L m es) v = eg_L m es v := by
  rcases eg_it_fix (m := m) hE 64 with h | h
  · exact h v hv
  · have h0 := eg_it_le (m := m) (es := es) 64 0
    have h1 := eg_it_le (m := m) (es := es) 64 1
    have h2 := eg_it_le (m := m) (es := es) 64 2
    omega
theorem eg_it_least {m : Nat → Bool} {es : List (Nat × Nat × Nat)} {N : Nat → Nat} (hE : eg_E es) (hN : ∀ v, v < 3 → N v ≤ 13) (h : ∀ v, v < 3 → eg_F m es N v ≤ N v) : ∀ k v, v < 3 → eg_it m es k v ≤ N v := by
  intro k
  induction k with
  | zero => intro v _; exact Nat.zero_le _
  | succ k ih =>
    intro v hv
    exact Nat.le_trans (eg_Fm hE ih hN v) (h v hv)
/-- what is closed under F and lies below L is L -/
theorem eg_L_eq {m : Nat → Bool} {es : List (Nat × Nat × Nat)} {N : Nat → Nat} (hE : eg_E es) (hN : ∀ v, v < 3 → N v ≤ eg_L m es v) (h : ∀ v, v < 3 → eg_F m es N v ≤ N v) (v : Nat) (hv : v < 3) : N v = eg_L m es v :=
  Nat.le_antisymm (hN v hv) (eg_it_least hE (fun u hu => Nat.le_trans (hN u hu) (eg_L_le u)) h 64 v hv)
/-! how often a vertex is a begin; the edges that are taken -/
def eg_dg (es : List (Nat × Nat × Nat)) (u : Nat) : Nat := es.countP (fun x => decide (x.1 = u))
theorem eg_dg_app (es : List (Nat × Nat × Nat)) (x : Nat × Nat × Nat) (u : Nat) : eg_dg (es ++ [x]) u = eg_dg es u + if x.1 = u then 1 else 0 := by
  unfold eg_dg
  rw [List.countP_append, List.countP_singleton]
  by_cases e : x.1 = u <;> simp [e]
def eg_ed (X : Nat → Nat × Nat × Nat) : Nat → List (Nat × Nat × Nat)
  | 0 => []
  | k + 1 => if eg_dg (eg_ed X k) (X k).1 < 3 then eg_ed X k ++ [X k] else eg_ed X k
theorem eg_ed_t {X : Nat → Nat × Nat × Nat} {k : Nat} (h : eg_dg (eg_ed X k) (X k).1 < 3) : eg_ed X (k + 1) = eg_ed X k ++ [X k] := if_pos h
theorem eg_ed_f {X : Nat → Nat × Nat × Nat} {k : Nat} (h : ¬ eg_dg (eg_ed X k) (X k).1 < 3) : eg_ed X (k + 1) = eg_ed X k := if_neg h
theorem eg_dg_le (X : Nat → Nat × Nat × Nat) : ∀ k u, eg_dg (eg_ed X k) u ≤ 3 := by
  intro k
  induction k with
  | zero => intro u; exact Nat.zero_le _
  | succ k ih =>
    intro u
    by_cases h : eg_dg (eg_ed X k) (X k).1 < 3
    · rw [eg_ed_t h, eg_dg_app]
      by_cases e : (X k).1 = u
      · rw [if_pos e]; rw [e] at h; omega
      · rw [if_neg e]; exact ih u
    · rw [eg_ed_f h]; exact ih u
theorem eg_ed_len (X : Nat → Nat × Nat × Nat) : ∀ k, (eg_ed X k).length ≤ k := by
  intro k
  induction k with
  | zero => exact Nat.le_refl _
  | succ k ih =>
    by_cases h : eg_dg (eg_ed X k) (X k).1 < 3
    · rw [eg_ed_t h, List.length_append]
      show _ + 1 ≤ _
      omega
    · rw [eg_ed_f h]; omega
theorem eg_ed_E {X : Nat → Nat × Nat × Nat} (hX : ∀ k, (X k).1 < 3 ∧ (X k).2.1 < 3 ∧ (X k).2.2 ≤ 12) : ∀ k, eg_E (eg_ed X k) := by
  intro k
  induction k with
  | zero => intro x hx; exact absurd hx List.not_mem_nil
  | succ k ih =>
    by_cases h : eg_dg (eg_ed X k) (X k).1 < 3
    · rw [eg_ed_t h]
      intro x hx
      rcases List.mem_append.mp hx with h1 | h1
      · exact ih x h1
      · rw [List.mem_singleton.mp h1]; exact hX k
    · rw [eg_ed_f h]; exact ih
end
section
/-! bits: part, begin, end, gain; the set of edges that are there; the packed credits -/
theorem eg_nor (a b : Nat) : nI a ||| nI b = nI (a ||| b) := by
  apply Int32.toBitVec_inj.1
  show BitVec.ofNat 32 a ||| BitVec.ofNat 32 b = BitVec.ofNat 32 (a ||| b)
  apply BitVec.eq_of_getLsbD_eq
  intro i hi
  simp [hi]
theorem eg_orA {a k : Nat} (c : Nat) (h : a < 2 ^ k) : nI a ||| nI (c * 2 ^ k) = nI (a + c * 2 ^ k) := by
  rw [eg_nor, Nat.or_comm, Nat.mul_comm c, ← Nat.two_pow_add_eq_or_of_lt h, Nat.add_comm]
theorem eg_s1 : ∀ n, n < 32 → ((nI n &&& 31).toBitVec.smod 32).toNat = n := by decide +kernel
theorem eg_s8 : ∀ v, v < 3 → (((8 * nI v) &&& 31).toBitVec.smod 32).toNat = 8 * v := by decide +kernel
def eg_pt (p q : Int32) (e : Nat) : Int32 := if 3 ≤ e then (q >>> (((10 * nI e) - 30) &&& 31)) &&& 1023 else (p >>> ((10 * nI e) &&& 31)) &&& 1023
theorem eg_part {post : Int32 → Prop} {p q : Int32} {e : Nat} (he : e < 5) (H : post (eg_pt p q e)) : wpL_part post () p q (nI e) := by
  unfold eg_pt at H
  exact pk_le 3 e (fun z => by rw [if_pos z] at H; exact H) (fun z => by rw [if_neg (by omega)] at H; exact H)
def eg_bg (x : Int32) : Nat := x.toBitVec.toNat % 4 % 3
def eg_en (x : Int32) : Nat := (x >>> ((2 : Int32) &&& 31)).toBitVec.toNat % 4 % 3
def eg_ga (x : Int32) : Nat := (x >>> ((4 : Int32) &&& 31)).toBitVec.toNat % 16 % 13
theorem eg_rem3 (y : Int32) : (y &&& 3) - (y &&& 3) / 3 * 3 = nI (y.toBitVec.toNat % 4 % 3) := by
  rw [pk_and y (m := 3) 2 (by decide)]
  exact pk_rem (d := 3) (by omega) (by omega) (by omega)
theorem eg_rem13 (y : Int32) : (y &&& 15) - (y &&& 15) / 13 * 13 = nI (y.toBitVec.toNat % 16 % 13) := by
  rw [pk_and y (m := 15) 4 (by decide)]
  exact pk_rem (d := 13) (by omega) (by omega) (by omega)
theorem eg_begin {post : Int32 → Prop} {x : Int32} (H : post (nI (eg_bg x))) : wpL_begin post () x := by
  refine ⟨by decide, ?_⟩
  rw [eg_rem3]
  exact H
theorem eg_end {post : Int32 → Prop} {x : Int32} (H : post (nI (eg_en x))) : wpL_end post () x := by
  refine ⟨by decide, ?_⟩
  rw [eg_rem3]
  exact H
theorem eg_gain {post : Int32 → Prop} {x : Int32} (H : post (nI (eg_ga x) - 6)) : wpL_gain post () x := by
  refine ⟨by decide, ?_⟩
  rw [eg_rem13]
  exact H
def eg_X (p q : Int32) (e : Nat) : Nat × Nat × Nat := (eg_bg (eg_pt p q e), eg_en (eg_pt p q e), eg_ga (eg_pt p q e))
theorem eg_X_in (p q : Int32) : ∀ k, (eg_X p q k).1 < 3 ∧ (eg_X p q k).2.1 < 3 ∧ (eg_X p q k).2.2 ≤ 12 := by
  intro k
  refine ⟨Nat.mod_lt _ (by decide), Nat.mod_lt _ (by decide), ?_⟩
  exact Nat.le_of_lt_succ (Nat.mod_lt _ (by decide))
/-! the set -/
def eg_bt (X : Nat → Nat × Nat × Nat) (e : Nat) : Nat := if eg_dg (eg_ed X e) (X e).1 < 3 then 1 else 0
theorem eg_bt_le (X : Nat → Nat × Nat × Nat) (e : Nat) : eg_bt X e ≤ 1 := by
  unfold eg_bt; split <;> omega
theorem eg_bt_t {X : Nat → Nat × Nat × Nat} {e : Nat} (h : eg_dg (eg_ed X e) (X e).1 < 3) : eg_bt X e = 1 := if_pos h
theorem eg_bt_f {X : Nat → Nat × Nat × Nat} {e : Nat} (h : ¬ eg_dg (eg_ed X e) (X e).1 < 3) : eg_bt X e = 0 := if_neg h
theorem eg_bt_iff {X : Nat → Nat × Nat × Nat} {e : Nat} : eg_bt X e = 1 ↔ eg_dg (eg_ed X e) (X e).1 < 3 := by
  constructor
  · intro h
    by_cases g : eg_dg (eg_ed X e) (X e).1 < 3
    · exact g
    · rw [eg_bt_f g] at h; omega
  · exact eg_bt_t
def eg_set (X : Nat → Nat × Nat × Nat) : Nat → Nat
  | 0 => 0
  | k + 1 => eg_set X k + eg_bt X k * 2 ^ k
theorem eg_set_lt (X : Nat → Nat × Nat × Nat) : ∀ k, eg_set X k < 2 ^ k := by
  intro k
  induction k with
  | zero => exact Nat.zero_lt_one
  | succ k ih =>
    show eg_set X k + eg_bt X k * 2 ^ k < 2 ^ (k + 1)
    have h : eg_bt X k * 2 ^ k ≤ 1 * 2 ^ k := Nat.mul_le_mul_right _ (eg_bt_le X k)
    rw [Nat.pow_succ]
    omega
theorem eg_set5 (X : Nat → Nat × Nat × Nat) : eg_set X 5 = eg_bt X 0 + eg_bt X 1 * 2 + eg_bt X 2 * 4 + eg_bt X 3 * 8 + eg_bt X 4 * 16 := by
  show 0 + eg_bt X 0 * 2 ^ 0 + eg_bt X 1 * 2 ^ 1 + eg_bt X 2 * 2 ^ 2 + eg_bt X 3 * 2 ^ 3 + eg_bt X 4 * 2 ^ 4 = _
  omega
theorem eg_bit (X : Nat → Nat × Nat × Nat) {e : Nat} (he : e < 5) : (nI (eg_set X 5) >>> (nI e &&& 31)) &&& 1 = nI (eg_bt X e) := by
  have h := eg_set_lt X 5
  have hd : eg_set X 5 / 2 ^ e ≤ eg_set X 5 := Nat.div_le_self _ _
  rw [pk_shrN (by omega) _ e (eg_s1 e (by omega)), pk_andN (by omega) 1 (by decide)]
  refine congrArg nI ?_
  rw [eg_set5]
  have h0 := eg_bt_le X 0
  have h1 := eg_bt_le X 1
  have h2 := eg_bt_le X 2
  have h3 := eg_bt_le X 3
  have h4 := eg_bt_le X 4
  rcases (by omega : e = 0 ∨ e = 1 ∨ e = 2 ∨ e = 3 ∨ e = 4) with rfl | rfl | rfl | rfl | rfl <;> omega
theorem eg_one {k : Nat} (hk : k < 31) : (1 : Int32) <<< (nI k &&& 31) = nI (1 * 2 ^ k) :=
  pk_shlN (n := 1) _ k (eg_s1 k (by omega)) (by
    have : 2 ^ k ≤ 2 ^ 31 := Nat.pow_le_pow_right (by decide) (by omega)
    omega)
theorem eg_setT {X : Nat → Nat × Nat × Nat} {k : Nat} (hk : k < 5) (h : eg_dg (eg_ed X k) (X k).1 < 3) : nI (eg_set X k) ||| ((1 : Int32) <<< (nI k &&& 31)) = nI (eg_set X (k + 1)) := by
  rw [eg_one (by omega), eg_orA 1 (eg_set_lt X k)]
  show _ = nI (eg_set X k + eg_bt X k * 2 ^ k)
  rw [eg_bt_t h]
theorem eg_setF {X : Nat → Nat × Nat × Nat} {k : Nat} (h : ¬ eg_dg (eg_ed X k) (X k).1 < 3) : eg_set X (k + 1) = eg_set X k := by
  show eg_set X k + eg_bt X k * 2 ^ k = _
  rw [eg_bt_f h]
  omega
def eg_o (es : List (Nat × Nat × Nat)) : Nat := eg_dg es 0 + 16 * eg_dg es 1 + 256 * eg_dg es 2
theorem eg_nib {d : Nat → Nat} (hd : ∀ u, d u ≤ 3) {u : Nat} (hu : u < 3) : (nI (d 0 + 16 * d 1 + 256 * d 2) >>> ((4 * nI u) &&& 31)) &&& 15 = nI (d u) := by
  have t : ∀ u, u < 3 → (((4 * nI u) &&& 31).toBitVec.smod 32).toNat = 4 * u := by decide +kernel
  have h0 := hd 0
  have h1 := hd 1
  have h2 := hd 2
  have hdv : (d 0 + 16 * d 1 + 256 * d 2) / 2 ^ (4 * u) ≤ d 0 + 16 * d 1 + 256 * d 2 := Nat.div_le_self _ _
  rw [pk_shrN (by omega) _ (4 * u) (t u hu), pk_andN (by omega) 4 (by decide)]
  refine congrArg nI ?_
  rcases (by omega : u = 0 ∨ u = 1 ∨ u = 2) with rfl | rfl | rfl <;> omega
theorem eg_out (o : Nat) {u : Nat} (hu : u < 3) : nI o + ((1 : Int32) <<< ((4 * nI u) &&& 31)) = nI (o + 16 ^ u) := by
  have t : ∀ u, u < 3 → (1 : Int32) <<< ((4 * nI u) &&& 31) = nI (16 ^ u) := by decide +kernel
  rw [t u hu, nI_add]
theorem eg_o_app (es : List (Nat × Nat × Nat)) (x : Nat × Nat × Nat) (hx : x.1 < 3) : eg_o (es ++ [x]) = eg_o es + 16 ^ x.1 := by
  unfold eg_o
  rw [eg_dg_app, eg_dg_app, eg_dg_app]
  rcases (by omega : x.1 = 0 ∨ x.1 = 1 ∨ x.1 = 2) with h | h | h <;> rw [h] <;> simp <;> omega
theorem eg_there {post : Int32 → Prop} {p q : Int32} (H : post (nI (eg_set (eg_X p q) 5))) : wpL_there post () p q := by
  refine pk_loop (σ := Unit) (fun n i _ => wL_there_7 post p q n (nI (eg_set (eg_X p q) i)) (nI (eg_o (eg_ed (eg_X p q) i))) (nI i)) (fun _ _ => True) 5 0 () (by omega) trivial ?_ ?_
  · intro n _ _
    exact pk_le 5 5 (fun _ => H) (fun z => absurd z (by omega))
  · intro n i _ hi _ hw
    have K : wL_there_7 post p q n (nI (eg_set (eg_X p q) (i + 1))) (nI (eg_o (eg_ed (eg_X p q) (i + 1)))) (nI (i + 1)) := hw () trivial
    have hu : (eg_X p q i).1 < 3 := (eg_X_in p q i).1
    have hl := eg_dg_le (eg_X p q) i (eg_X p q i).1
    have hn : (nI (eg_o (eg_ed (eg_X p q) i)) >>> ((4 * nI (eg_X p q i).1) &&& 31)) &&& 15 = nI (eg_dg (eg_ed (eg_X p q) i) (eg_X p q i).1) :=
      eg_nib (d := eg_dg (eg_ed (eg_X p q) i)) (eg_dg_le (eg_X p q) i) hu
    refine pk_le 5 i (fun z => absurd z (by omega)) (fun _ => eg_part hi (eg_begin ?_))
    refine pk_le 3 (eg_dg (eg_ed (eg_X p q) i) (eg_X p q i).1) (fun z => ?_) (fun z => ?_) (hy := hn) (hb := by omega)
    · rw [eg_setF (by omega), eg_ed_f (by omega)] at K
      exact pk_le 3 (eg_dg (eg_ed (eg_X p q) i) (eg_X p q i).1) (fun _ => nm_r (nI_1 i) K) (fun z' => absurd z' (by omega)) (hy := hn) (hb := by omega)
    · rw [eg_ed_t z, eg_o_app _ _ hu] at K
      exact nm_r (eg_setT hi z) (pk_le 3 (eg_dg (eg_ed (eg_X p q) i) (eg_X p q i).1) (fun z' => absurd z' (by omega)) (fun _ => nm_r (eg_out _ hu) (nm_r (nI_1 i) K)) (hy := hn) (hb := by omega))
/-! packed credits -/
theorem eg_enc_le {c : Nat} (h : c ≤ 13) : eg_enc c ≤ 99 := by
  unfold eg_enc; split <;> omega
theorem eg_enc_iff {a b : Nat} (ha : a ≤ 13) (hb : b ≤ 13) : eg_enc a ≤ eg_enc b ↔ a ≤ b := by
  unfold eg_enc; split <;> split <;> omega
theorem eg_enc_13 : eg_enc 13 = 99 := rfl
theorem eg_enc_ne {c : Nat} (h : c ≠ 13) : eg_enc c = c := if_neg h
theorem eg_enc_99 {c : Nat} (hc : c ≤ 13) : eg_enc c = 99 ↔ c = 13 := by
  unfold eg_enc; split <;> omega
def eg_pk (N : Nat → Nat) : Nat → Nat
  | 0 => 0
  | k + 1 => eg_pk N k + eg_enc (N k) * 2 ^ (8 * k)
theorem eg_pk3 (N : Nat → Nat) : eg_pk N 3 = eg_enc (N 0) + eg_enc (N 1) * 256 + eg_enc (N 2) * 65536 := by
  show 0 + eg_enc (N 0) * 2 ^ (8 * 0) + eg_enc (N 1) * 2 ^ (8 * 1) + eg_enc (N 2) * 2 ^ (8 * 2) = _
  omega
theorem eg_ex {N : Nat → Nat} (hN : ∀ v, N v ≤ 13) {v : Nat} (hv : v < 3) : (nI (eg_pk N 3) >>> ((8 * nI v) &&& 31)) &&& 127 = nI (eg_enc (N v)) := by
  have h0 := eg_enc_le (hN 0)
  have h1 := eg_enc_le (hN 1)
  have h2 := eg_enc_le (hN 2)
  have hp := eg_pk3 N
  have hd : eg_pk N 3 / 2 ^ (8 * v) ≤ eg_pk N 3 := Nat.div_le_self _ _
  rw [pk_shrN (by omega) _ (8 * v) (eg_s8 v hv), pk_andN (by omega) 7 (by decide)]
  refine congrArg nI ?_
  rw [hp]
  rcases (by omega : v = 0 ∨ v = 1 ∨ v = 2) with rfl | rfl | rfl <;> omega
theorem eg_pk_lt {N : Nat → Nat} (hN : ∀ v, N v ≤ 13) {k : Nat} (hk : k < 3) : eg_pk N k < 2 ^ (8 * k) := by
  have h0 := eg_enc_le (hN 0)
  have h1 := eg_enc_le (hN 1)
  rcases (by omega : k = 0 ∨ k = 1 ∨ k = 2) with rfl | rfl | rfl
  · exact Nat.zero_lt_one
  · show 0 + eg_enc (N 0) * 2 ^ (8 * 0) < 2 ^ (8 * 1)
    omega
  · show 0 + eg_enc (N 0) * 2 ^ (8 * 0) + eg_enc (N 1) * 2 ^ (8 * 1) < 2 ^ (8 * 2)
    omega
theorem eg_put {N : Nat → Nat} (hN : ∀ v, N v ≤ 13) {k : Nat} (hk : k < 3) : nI (eg_pk N k) ||| (nI (eg_enc (N k)) <<< ((8 * nI k) &&& 31)) = nI (eg_pk N (k + 1)) := by
  have h0 := eg_enc_le (hN k)
  have hs : eg_enc (N k) * 2 ^ (8 * k) < 2 ^ 32 := by
    have e : 2 ^ (8 * k) ≤ 2 ^ 16 := Nat.pow_le_pow_right (by decide) (by omega)
    have := Nat.mul_le_mul h0 e
    omega
  rw [pk_shlN _ (8 * k) (eg_s8 k hk) hs, eg_orA _ (eg_pk_lt hN hk)]
  rfl
end
section
/-! the law's own round: next maps the packed needs N to the packed needs F N -/
def eg_m (o : Int32) (v : Nat) : Bool := decide ((o >>> (nI v &&& 31)) &&& 1 = 0)
theorem eg_m_t {o : Int32} {v : Nat} (h : (o >>> (nI v &&& 31)) &&& 1 = 0) : eg_m o v = true := decide_eq_true h
theorem eg_m_f {o : Int32} {v : Nat} (h : ¬ (o >>> (nI v &&& 31)) &&& 1 = 0) : eg_m o v = false := decide_eq_false h
theorem eg_sub (c g : Nat) : nI c - (nI g - 6) = nI (c + 6) - nI g := by
  rw [← nI_add]
  show nI c - (nI g - 6) = nI c + 6 - nI g
  grind
theorem eg_st_min (a w : Nat) : eg_st true (some a) w = some (min a w) := rfl
theorem eg_st_max (a w : Nat) : eg_st false (some a) w = some (max a w) := rfl
theorem eg_st_none (m : Bool) (w : Nat) : eg_st m none w = some w := rfl
def eg_c (r : Option Nat) : Int32 := match r with
  | none => -1
  | some w => nI (eg_enc w)
theorem eg_110 {post : Int32 → Prop} {J6 J18 : Int32 → Int32 → Prop} {p q x2 o cr x5 : Int32} {v e : Nat} {r : Option Nat} {w : Nat} (hr : ∀ a, r = some a → a ≤ 13) (hw : w ≤ 13)
    (H : J18 (eg_c (eg_st (eg_m o v) r w)) (nI (e + 1))) : wL_next_110 post J6 J18 p q x2 o cr x5 (nI v) (eg_c r) (nI e) (nI (eg_enc w)) := by
  cases r with
  | none =>
    have k : ∀ z, wL_next_146 post J6 J18 p q x2 o cr x5 (nI v) (eg_c none) (nI e) (nI (eg_enc w)) z := fun z => br_t (by decide) (nm_r (nI_1 e) H)
    exact br_c (fun _ => br_c (fun _ => k 0) (fun _ => k 1)) (fun _ => br_c (fun _ => k 0) (fun _ => k 1))
  | some a =>
    have ha := hr a rfl
    have b1 := eg_enc_le ha
    have b2 := eg_enc_le hw
    have bi := eg_enc_iff ha hw
    have bj := eg_enc_iff hw ha
    have hp : ¬ eg_c (some a) < 0 := nI_pos (by omega)
    have k0 : J18 (nI (eg_enc a)) (nI (e + 1)) → wL_next_146 post J6 J18 p q x2 o cr x5 (nI v) (eg_c (some a)) (nI e) (nI (eg_enc w)) 0 := fun h => br_f hp (br_t rfl (nm_r (nI_1 e) h))
    have k1 : J18 (nI (eg_enc w)) (nI (e + 1)) → wL_next_146 post J6 J18 p q x2 o cr x5 (nI v) (eg_c (some a)) (nI e) (nI (eg_enc w)) 1 := fun h => br_f hp (br_f (by decide) (nm_r (nI_1 e) h))
    refine br_c (fun g => ?_) (fun g => ?_)
    · rw [eg_m_t g, eg_st_min] at H
      refine pk_le (eg_enc a) (eg_enc w) (fun z => k0 ?_) (fun z => k1 ?_)
      · rw [show min a w = a by omega] at H; exact H
      · rw [show min a w = w by omega] at H; exact H
    · rw [eg_m_f g, eg_st_max] at H
      refine pk_le (eg_enc w) (eg_enc a) (fun z => k0 ?_) (fun z => k1 ?_)
      · rw [show max a w = a by omega] at H; exact H
      · rw [show max a w = w by omega] at H; exact H
theorem eg_89a {post : Int32 → Prop} {J6 J18 : Int32 → Int32 → Prop} {p q x2 o cr x5 x6 x7 x8 : Int32} {c g : Nat} (hc : c = 13)
    (H : wL_next_110 post J6 J18 p q x2 o cr x5 x6 x7 x8 (nI (eg_enc (eg_ask c g)))) : wL_next_89 post J6 J18 p q x2 o cr x5 x6 x7 x8 99 := by
  subst hc
  exact br_t (by decide) (br_f (by decide) H)
theorem eg_89b {post : Int32 → Prop} {J6 J18 : Int32 → Int32 → Prop} {p q x2 o cr x5 x6 x7 x8 : Int32} {c g : Nat} (hc : c < 13) (hg : g ≤ 12)
    (H : wL_next_110 post J6 J18 p q x2 o cr x5 x6 x7 x8 (nI (eg_enc (eg_ask c g)))) : wL_next_89 post J6 J18 p q x2 o cr x5 x6 x7 x8 (nI c - (nI g - 6)) := by
  have ea : eg_ask c g = min (c + 6 - g) 13 := if_neg (by omega)
  rw [ea] at H
  rw [eg_sub]
  by_cases h : g ≤ c + 6
  · rw [pk_sub h]
    refine pk_le 0 (c + 6 - g) (fun _ => ?_) (fun z => absurd z (by omega))
    refine pk_le (c + 6 - g) 12 (fun z => ?_) (fun z => ?_)
    · rw [eg_enc_ne (by omega), show min (c + 6 - g) 13 = c + 6 - g by omega] at H
      exact H
    · rw [show min (c + 6 - g) 13 = 13 by omega] at H
      exact H
  · have hn : ¬ (0 : Int32) ≤ nI (c + 6) - nI g := Int32.not_le.mpr (pk_sneg (by omega) (by omega))
    rw [show min (c + 6 - g) 13 = 0 by omega] at H
    exact br_f hn (br_t (by decide) H)
/-- the fold over the edges that are there, one edge further -/
theorem eg_fo_ne {X : Nat → Nat × Nat × Nat} {m : Bool} {N : Nat → Nat} {v i : Nat} (h : (X i).1 ≠ v ∨ ¬ eg_dg (eg_ed X i) (X i).1 < 3) : (eg_ed X (i + 1)).foldl (eg_fs m N v) none = (eg_ed X i).foldl (eg_fs m N v) none := by
  by_cases g : eg_dg (eg_ed X i) (X i).1 < 3
  · rw [eg_ed_t g, List.foldl_append]
    rcases h with h | h
    · exact if_neg h
    · exact absurd g h
  · rw [eg_ed_f g]
theorem eg_fo_eq {X : Nat → Nat × Nat × Nat} {m : Bool} {N : Nat → Nat} {v i : Nat} (h : (X i).1 = v) (g : eg_dg (eg_ed X i) (X i).1 < 3) : (eg_ed X (i + 1)).foldl (eg_fs m N v) none = eg_st m ((eg_ed X i).foldl (eg_fs m N v) none) (eg_ask (N (X i).2.1) (X i).2.2) := by
  rw [eg_ed_t g, List.foldl_append]
  exact if_pos h
theorem eg_18 {post : Int32 → Prop} {J6 : Int32 → Int32 → Prop} {p q o x5 : Int32} {N : Nat → Nat} {v : Nat} (hN : ∀ v, N v ≤ 13) (hv : v < 3)
    (H : J6 (x5 ||| (nI (eg_enc (eg_F (eg_m o) (eg_ed (eg_X p q) 5) N v)) <<< ((8 * nI v) &&& 31))) (nI (v + 1))) :
    ∃ n, wL_next_18 post J6 p q (nI (eg_set (eg_X p q) 5)) o (nI (eg_pk N 3)) x5 (nI v) n (-1) 0 := by
  refine pk_loop (σ := Unit) (fun n i _ => wL_next_18 post J6 p q (nI (eg_set (eg_X p q) 5)) o (nI (eg_pk N 3)) x5 (nI v) n (eg_c ((eg_ed (eg_X p q) i).foldl (eg_fs (eg_m o v) N v) none)) (nI i)) (fun _ _ => True) 5 0 () (by omega) trivial ?_ ?_
  · intro n _ _
    refine pk_le 5 5 (fun _ => ?_) (fun z => absurd z (by omega))
    unfold eg_F at H
    have hb := eg_f0_le (m := eg_m o v) (N := N) (v := v) (eg_ed (eg_X p q) 5)
    cases hf : (eg_ed (eg_X p q) 5).foldl (eg_fs (eg_m o v) N v) none with
    | none =>
      rw [hf] at H
      exact br_f (by decide) (nm_e (nm_r (nI_1 v) H))
    | some a =>
      rw [hf] at H
      have := eg_enc_le (hb a hf)
      exact br_t (nI_pos' (by omega)) (nm_e (nm_r (nI_1 v) H))
  · intro n i _ hi _ hw
    have K : wL_next_18 post J6 p q (nI (eg_set (eg_X p q) 5)) o (nI (eg_pk N 3)) x5 (nI v) n (eg_c ((eg_ed (eg_X p q) (i + 1)).foldl (eg_fs (eg_m o v) N v) none)) (nI (i + 1)) := hw () trivial
    obtain ⟨hx1, hx2, hx3⟩ := eg_X_in p q i
    have hbt := eg_bt_le (eg_X p q) i
    have hd := hN (eg_X p q i).2.1
    have he := eg_enc_le hd
    refine pk_le 5 i (fun z => absurd z (by omega)) (fun _ => eg_part hi (eg_begin ?_))
    refine pk_eq (eg_X p q i).1 v (fun z => ?_) (fun z => nm_r (nI_1 i) ?_)
    · refine pk_eq (eg_bt (eg_X p q) i) 1 (fun b => eg_end ?_) (fun b => nm_r (nI_1 i) ?_) (hx := eg_bit _ hi)
      · have K' := K
        rw [eg_fo_eq z (eg_bt_iff.mp b)] at K'
        have K2 : ∀ J, wL_next_110 post J6 (wL_next_18 post J6 p q (nI (eg_set (eg_X p q) 5)) o (nI (eg_pk N 3)) x5 (nI v) n) p q J o (nI (eg_pk N 3)) x5 (nI v) (eg_c ((eg_ed (eg_X p q) i).foldl (eg_fs (eg_m o v) N v) none)) (nI i) (nI (eg_enc (eg_ask (N (eg_X p q i).2.1) (eg_X p q i).2.2))) :=
          fun J => eg_110 (eg_f0_le _) (eg_ask_le _ _) K'
        refine nm_r (eg_ex hN hx2) ?_
        refine pk_eq (eg_enc (N (eg_X p q i).2.1)) 99 (fun c => ?_) (fun c => eg_gain ?_)
        · exact eg_89a ((eg_enc_99 hd).mp c) (K2 _)
        · have c' : N (eg_X p q i).2.1 ≠ 13 := fun t => c ((eg_enc_99 hd).mpr t)
          have k3 := eg_89b (by omega) hx3 (K2 (nI (eg_set (eg_X p q) 5)))
          rw [← eg_enc_ne c'] at k3
          exact k3
      · rw [eg_fo_ne (Or.inr (fun t => b (eg_bt_t t)))] at K
        exact K
    · rw [eg_fo_ne (Or.inl z)] at K
      exact K
theorem eg_next {post : Int32 → Prop} {p q o : Int32} {N : Nat → Nat} (hN : ∀ v, N v ≤ 13) (H : post (nI (eg_pk (eg_F (eg_m o) (eg_ed (eg_X p q) 5) N) 3))) :
    wpL_next post () p q (nI (eg_set (eg_X p q) 5)) o (nI (eg_pk N 3)) := by
  refine pk_loop (σ := Unit) (fun n i _ => wL_next_6 post p q (nI (eg_set (eg_X p q) 5)) o (nI (eg_pk N 3)) n (nI (eg_pk (eg_F (eg_m o) (eg_ed (eg_X p q) 5) N) i)) (nI i)) (fun _ _ => True) 3 0 () (by omega) trivial ?_ ?_
  · intro n _ _
    exact pk_le 3 3 (fun _ => H) (fun z => absurd z (by omega))
  · intro n i _ hi _ hw
    refine pk_le 3 i (fun z => absurd z (by omega)) (fun _ => eg_18 hN hi ?_)
    rw [eg_put (fun v => eg_Fb v) hi]
    exact hw () trivial
end
section
/-! the component: the arrays hold the edges es -/
def eg_K (es : List (Nat × Nat × Nat)) (a1 a2 a3 : Nat → Int32) : Prop := ∀ i x, es[i]? = some x → a1 i = nI x.1 ∧ a2 i = nI x.2.1 ∧ a3 i = nI x.2.2 - 6
theorem eg_tk {es : List (Nat × Nat × Nat)} {i : Nat} {x : Nat × Nat × Nat} (h : es[i]? = some x) : es.take (i + 1) = es.take i ++ [x] := by
  rw [List.take_add_one, h]
  rfl
theorem eg_at {es : List (Nat × Nat × Nat)} {i : Nat} (h : i < es.length) : ∃ x, es[i]? = some x ∧ x ∈ es :=
  ⟨es[i], List.getElem?_eq_getElem h, List.getElem_mem h⟩
def eg_d (r : Option Nat) : Int32 := match r with
  | none => -1
  | some w => nI w
theorem eg_isV {post : Int32 → Prop} {f1 f2 f3 f4 : Int32} {a1 a2 a3 a4 a5 a6 a7 : Nat → Int32} {v : Nat} (hv : v < 3) (H : post 1) : wpX_isVertex post (nI 3, f1, f2, f3, f4, a1, a2, a3, a4, a5, a6, a7) (nI v) :=
  br_f (nI_pos (by omega)) (pk_le 3 v (fun z => absurd z (by omega)) (fun _ => H))
theorem eg_asked {post : Int32 → Prop} {f0 f1 f3 f4 : Int32} {a1 a2 a3 a4 a5 a6 a7 : Nat → Int32} {i u g c : Nat} (hi : i < 14) (h2 : a2 i = nI u) (h3 : a3 i = nI g - 6) (hu : u < 3) (hg : g ≤ 12) (h5 : a5 u = nI c) (hc : c ≤ 13)
    (H : post (nI (eg_ask c g))) : wpX_asked post (f0, f1, nI 13, f3, f4, a1, a2, a3, a4, a5, a6, a7) (nI i) := by
  refine ⟨pk_in i 14 hi, ?_⟩
  rw [nI_clamp (show i < 2 ^ 31 by omega), h2, nI_clamp (show u < 2 ^ 31 by omega), h5, h3]
  refine ⟨pk_in u 6 (by omega), nm_e (pk_eq c 13 (fun z => ?_) (fun z => ⟨pk_in i 14 hi, nm_r (eg_sub c g) ?_⟩))⟩
  · rw [z] at H
    exact H
  · have ea : eg_ask c g = min (c + 6 - g) 13 := if_neg z
    rw [ea] at H
    by_cases h : g ≤ c + 6
    · rw [pk_sub h]
      refine pk_le 0 (c + 6 - g) (fun _ => pk_le 13 (c + 6 - g) (fun t => ?_) (fun t => ?_)) (fun t => absurd t (by omega))
      · rw [show min (c + 6 - g) 13 = 13 by omega] at H
        exact H
      · rw [show min (c + 6 - g) 13 = c + 6 - g by omega] at H
        exact H
    · have hn : ¬ (0 : Int32) ≤ nI (c + 6) - nI g := Int32.not_le.mpr (pk_sneg (by omega) (by omega))
      rw [show min (c + 6 - g) 13 = 0 by omega] at H
      exact br_f hn H
/-- what a vertex wants -/
theorem eg_wanted {post : Int32 → Prop} {cur : Int32} {a1 a2 a3 a4 a5 a6 a7 : Nat → Int32} {es : List (Nat × Nat × Nat)} {m : Nat → Bool} {N : Nat → Nat} {v : Nat} (hv : v < 3) (hE : eg_E es) (hl : es.length ≤ 5) (hK : eg_K es a1 a2 a3)
    (hO : m v = decide (a4 v = 0)) (h5 : ∀ u, u < 3 → a5 u = nI (N u)) (hN : ∀ u, u < 3 → N u ≤ 13) (H : post (nI (eg_F m es N v))) :
    wpX_wantedAt post (nI 3, nI es.length, nI 13, -1, cur, a1, a2, a3, a4, a5, a6, a7) (nI v) := by
  refine pk_loop (σ := Unit) (fun n i _ => wX_wantedAt_4 post (nI v) (nI 3) (nI es.length) (nI 13) (-1) cur a1 a2 a3 a4 a5 a6 a7 n (eg_d ((es.take i).foldl (eg_fs (m v) N v) none)) (nI i)) (fun _ _ => True) es.length 0 () (by omega) trivial ?_ ?_
  · intro n _ _
    refine pk_le es.length es.length (fun _ => ?_) (fun z => absurd z (by omega))
    rw [List.take_length]
    unfold eg_F at H
    have hb := eg_f0_le (m := m v) (N := N) (v := v) es
    cases hf : es.foldl (eg_fs (m v) N v) none with
    | none =>
      rw [hf] at H
      exact br_f (by decide) H
    | some a =>
      rw [hf] at H
      have := hb a hf
      exact br_t (nI_pos' (by omega)) H
  · intro n i _ hi _ hw
    have K : wX_wantedAt_4 post (nI v) (nI 3) (nI es.length) (nI 13) (-1) cur a1 a2 a3 a4 a5 a6 a7 n (eg_d ((es.take (i + 1)).foldl (eg_fs (m v) N v) none)) (nI (i + 1)) := hw () trivial
    obtain ⟨x, hx, hm⟩ := eg_at hi
    obtain ⟨k1, k2, k3⟩ := hK i x hx
    obtain ⟨e1, e2, e3⟩ := hE x hm
    rw [eg_tk hx, List.foldl_append] at K
    have hr := eg_f0_le (m := m v) (N := N) (v := v) (es.take i)
    generalize hq : (es.take i).foldl (eg_fs (m v) N v) none = r at K hr
    have K' : wX_wantedAt_4 post (nI v) (nI 3) (nI es.length) (nI 13) (-1) cur a1 a2 a3 a4 a5 a6 a7 n (eg_d (eg_fs (m v) N v r x)) (nI (i + 1)) := K
    unfold eg_fs at K'
    refine pk_le es.length i (fun z => absurd z (by omega)) (fun _ => ⟨pk_in i 14 (by omega), ?_⟩)
    rw [nI_clamp (show i < 2 ^ 31 by omega), k1]
    refine pk_eq x.1 v (fun z => ?_) (fun z => nm_r (nI_1 i) ?_)
    · rw [if_pos z] at K'
      have hne : ¬ nI i = (-1 : Int32) := by
        intro t
        have := nI_pos' (n := i) (by omega)
        rw [t] at this
        exact absurd this (by decide)
      refine br_f hne (eg_asked (by omega) k2 k3 e2 e3 (h5 _ e2) (hN _ e2) ?_)
      have hask := eg_ask_le (N x.2.1) x.2.2
      cases r with
      | none => exact br_t (by decide) (br_f (by decide) (nm_r (nI_1 i) K'))
      | some a =>
        have ha := hr a rfl
        have T : wX_wantedAt_4 post (nI v) (nI 3) (nI es.length) (nI 13) (-1) cur a1 a2 a3 a4 a5 a6 a7 n (nI (eg_ask (N x.2.1) x.2.2)) (nI (i + 1)) → wX_wantedAt_65 post (wX_wantedAt_4 post (nI v) (nI 3) (nI es.length) (nI 13) (-1) cur a1 a2 a3 a4 a5 a6 a7 n) (nI v) (eg_d (some a)) (nI i) (nI (eg_ask (N x.2.1) x.2.2)) (nI 3) (nI es.length) (nI 13) (-1) cur a1 a2 a3 a4 a5 a6 a7 :=
          fun h => br_f (by decide) (nm_r (nI_1 i) h)
        have U : wX_wantedAt_4 post (nI v) (nI 3) (nI es.length) (nI 13) (-1) cur a1 a2 a3 a4 a5 a6 a7 n (nI a) (nI (i + 1)) → wX_wantedAt_69 post (wX_wantedAt_4 post (nI v) (nI 3) (nI es.length) (nI 13) (-1) cur a1 a2 a3 a4 a5 a6 a7 n) (nI v) (eg_d (some a)) (nI i) (nI (eg_ask (N x.2.1) x.2.2)) (nI 3) (nI es.length) (nI 13) (-1) cur a1 a2 a3 a4 a5 a6 a7 :=
          fun h => br_t rfl (nm_r (nI_1 i) h)
        refine br_f (nI_pos (n := a) (by omega)) ⟨pk_in v 6 (by omega), ?_⟩
        rw [nI_clamp (show v < 2 ^ 31 by omega)]
        refine br_c (fun g => ?_) (fun g => ?_)
        · rw [hO, decide_eq_true g, eg_st_min] at K'
          refine pk_le a (eg_ask (N x.2.1) x.2.2) (fun t => U ?_) (fun t => T ?_)
          · rw [show min a (eg_ask (N x.2.1) x.2.2) = a by omega] at K'; exact K'
          · rw [show min a (eg_ask (N x.2.1) x.2.2) = eg_ask (N x.2.1) x.2.2 by omega] at K'; exact K'
        · rw [hO, decide_eq_false g, eg_st_max] at K'
          refine pk_le (eg_ask (N x.2.1) x.2.2) a (fun t => U ?_) (fun t => T ?_)
          · rw [show max a (eg_ask (N x.2.1) x.2.2) = a by omega] at K'; exact K'
          · rw [show max a (eg_ask (N x.2.1) x.2.2) = eg_ask (N x.2.1) x.2.2 by omega] at K'; exact K'
    · rw [if_neg z] at K'
      exact K'
theorem eg_dg_bd (es : List (Nat × Nat × Nat)) (u : Nat) : eg_dg es u ≤ es.length := List.countP_le_length
theorem eg_degree {post : Int32 → Prop} {f0 f2 f3 f4 : Int32} {a1 a2 a3 a4 a5 a6 a7 : Nat → Int32} {es : List (Nat × Nat × Nat)} {u : Nat} (hE : eg_E es) (hu : u < 3) (hl : es.length ≤ 5) (hK : eg_K es a1 a2 a3) (H : post (nI (eg_dg es u))) :
    wpX_degree post (f0, nI es.length, f2, f3, f4, a1, a2, a3, a4, a5, a6, a7) (nI u) := by
  refine pk_loop (σ := Unit) (fun n i _ => wX_degree_4 post (nI u) f0 (nI es.length) f2 f3 f4 a1 a2 a3 a4 a5 a6 a7 n (nI (eg_dg (es.take i) u)) (nI i)) (fun _ _ => True) es.length 0 () (by omega) trivial ?_ ?_
  · intro n _ _
    refine pk_le es.length es.length (fun _ => ?_) (fun z => absurd z (by omega))
    rw [List.take_length]
    exact H
  · intro n i _ hi _ hw
    have K : wX_degree_4 post (nI u) f0 (nI es.length) f2 f3 f4 a1 a2 a3 a4 a5 a6 a7 n (nI (eg_dg (es.take (i + 1)) u)) (nI (i + 1)) := hw () trivial
    obtain ⟨x, hx, hm⟩ := eg_at hi
    obtain ⟨k1, k2, k3⟩ := hK i x hx
    obtain ⟨e1, e2, e3⟩ := hE x hm
    rw [eg_tk hx, eg_dg_app] at K
    refine pk_le es.length i (fun z => absurd z (by omega)) (fun _ => ⟨pk_in i 14 (by omega), ?_⟩)
    rw [nI_clamp (show i < 2 ^ 31 by omega), k1]
    refine pk_eq x.1 u (fun z => ?_) (fun z => ?_)
    · rw [if_pos z] at K
      exact nm_r (nI_1 _) (nm_r (nI_1 i) K)
    · rw [if_neg z] at K
      exact nm_r (nI_add _ 0) (nm_r (nI_1 i) K)
theorem eg_K_app {es : List (Nat × Nat × Nat)} {a1 a2 a3 : Nat → Int32} {x : Nat × Nat × Nat} (hK : eg_K es a1 a2 a3) : eg_K (es ++ [x]) (upd a1 es.length (nI x.1)) (upd a2 es.length (nI x.2.1)) (upd a3 es.length (nI x.2.2 - 6)) := by
  intro i y hy
  rcases Nat.lt_trichotomy i es.length with h | h | h
  · rw [List.getElem?_append_left h] at hy
    rw [pk_un (by omega), pk_un (by omega), pk_un (by omega)]
    exact hK i y hy
  · rw [h, List.getElem?_concat_length] at hy
    rw [h, pk_us, pk_us, pk_us, Option.some.inj hy]
    exact ⟨rfl, rfl, rfl⟩
  · have : i < (es ++ [x]).length := (List.getElem?_eq_some_iff.mp hy).1
    rw [List.length_append] at this
    have h1 : ([x] : List (Nat × Nat × Nat)).length = 1 := rfl
    omega
theorem eg_g12 : ∀ g, g < 13 → ¬ nI g - 6 < (-6) ∧ nI g - 6 ≤ 6 := by decide +kernel
theorem eg_link {post : Int32 → St2 → Prop} {cur : Int32} {a1 a2 a3 a4 a5 a6 a7 : Nat → Int32} {es : List (Nat × Nat × Nat)} {x : Nat × Nat × Nat} (hE : eg_E es) (hl : es.length ≤ 5) (hd : eg_dg es x.1 ≤ 3) (hx : x.1 < 3 ∧ x.2.1 < 3 ∧ x.2.2 ≤ 12) (hK : eg_K es a1 a2 a3)
    (Hf : ¬ eg_dg es x.1 < 3 → post (-4) (nI 3, nI es.length, nI 13, -1, cur, a1, a2, a3, a4, a5, a6, a7))
    (Ht : eg_dg es x.1 < 3 → ∀ b1 b2 b3, eg_K (es ++ [x]) b1 b2 b3 → post (nI es.length) (nI 3, nI (es ++ [x]).length, nI 13, -1, 0, b1, b2, b3, a4, a5, a6, a7)) :
    wpX_link post (nI 3, nI es.length, nI 13, -1, cur, a1, a2, a3, a4, a5, a6, a7) (nI x.1) (nI x.2.1) (nI x.2.2 - 6) := by
  obtain ⟨h1, h2, h3⟩ := hx
  have g := eg_g12 x.2.2 (by omega)
  unfold wpX_link
  refine eg_isV h1 (br_f (by decide) (eg_isV h2 (br_f (by decide) (br_f g.1 (br_t g.2 (pk_eq es.length 14 (fun z => absurd z (by omega)) (fun _ => eg_degree hE h1 hl hK ?_)))))))
  refine pk_eq (eg_dg es x.1) 3 (fun z => Hf (by omega)) (fun z => ?_)
  rw [nI_clamp (show es.length < 2 ^ 31 by omega)]
  refine ⟨pk_in es.length 14 (by omega), nm_e ⟨pk_in es.length 14 (by omega), nm_e ⟨pk_in es.length 14 (by omega), nm_e (nm_r (nI_1 es.length) ?_)⟩⟩⟩
  rw [nI_pred]
  have t := Ht (by omega) _ _ _ (eg_K_app hK)
  rw [List.length_append] at t
  exact t
theorem eg_give {post : Int32 → St2 → Prop} {f1 f2 f3 f4 b : Int32} {a1 a2 a3 a4 a5 a6 a7 : Nat → Int32} {v : Nat} (hv : v < 3) (hb : b = 0 ∨ b = 1) (H : ∀ r, post r (nI 3, f1, f2, f3, 0, a1, a2, a3, upd a4 v b, a5, a6, a7)) :
    wpX_give post (nI 3, f1, f2, f3, f4, a1, a2, a3, a4, a5, a6, a7) (nI v) b := by
  have k : wX_give_22 post (nI v) b (nI 3) f1 f2 f3 f4 a1 a2 a3 a4 a5 a6 a7 := by
    unfold wX_give_22
    rw [nI_clamp (show v < 2 ^ 31 by omega)]
    exact ⟨pk_in v 6 (by omega), nm_e ⟨pk_in v 6 (by omega), nm_e (H _)⟩⟩
  unfold wpX_give
  refine eg_isV hv (br_f (by decide) ?_)
  rcases hb with h | h
  · exact br_t h k
  · exact br_f (by rw [h]; decide) (br_t h k)
end
section
/-! solve: the queue is a ring of 8 that holds a list Q of different vertices; waits says who is in it -/
def eg_Q (f : Nat) (Q : List Nat) (a6 a7 : Nat → Int32) : Prop :=
  f < 8 ∧ Q.Nodup ∧ (∀ u, u ∈ Q → u < 3) ∧ (∀ u, u < 3 → (u ∈ Q → a6 u = 1) ∧ (u ∉ Q → a6 u = 0)) ∧ (∀ i u, Q[i]? = some u → a7 ((f + i) % 8) = nI u)
theorem eg_cnt3 : ∀ Q : List Nat, (∀ u, u ∈ Q → u < 3) → Q.length = Q.count 0 + Q.count 1 + Q.count 2 := by
  intro Q
  induction Q with
  | nil => intro _; rfl
  | cons x l ih =>
    intro h
    have hx := h x List.mem_cons_self
    have hi := ih (fun u hu => h u (List.mem_cons_of_mem _ hu))
    rw [List.length_cons, List.count_cons, List.count_cons, List.count_cons, hi]
    rcases (by omega : x = 0 ∨ x = 1 ∨ x = 2) with rfl | rfl | rfl <;> simp <;> omega
theorem eg_Q_len {f : Nat} {Q : List Nat} {a6 a7 : Nat → Int32} (h : eg_Q f Q a6 a7) : Q.length ≤ 3 := by
  obtain ⟨_, h2, h3, _, _⟩ := h
  have hc := List.nodup_iff_count.mp h2
  have h0 := hc 0
  have h1 := hc 1
  have h2 := hc 2
  rw [eg_cnt3 Q h3]
  omega
theorem eg_Q_push {f : Nat} {Q : List Nat} {a6 a7 : Nat → Int32} {u : Nat} (h : eg_Q f Q a6 a7) (hu : u < 3) (hn : u ∉ Q) : eg_Q f (Q ++ [u]) (upd a6 u 1) (upd a7 ((f + Q.length) % 8) (nI u)) := by
  have hlen := eg_Q_len h
  obtain ⟨h1, h2, h3, h4, h5⟩ := h
  refine ⟨h1, ?_, ?_, ?_, ?_⟩
  · refine List.nodup_append.mpr ⟨h2, List.nodup_cons.mpr ⟨List.not_mem_nil, List.nodup_nil⟩, ?_⟩
    intro a ha b hb e
    rw [List.mem_singleton.mp hb] at e
    rw [e] at ha
    exact hn ha
  · intro w hw
    rcases List.mem_append.mp hw with g | g
    · exact h3 w g
    · rw [List.mem_singleton.mp g]; exact hu
  · intro w hw
    by_cases e : w = u
    · rw [e, pk_us]
      exact ⟨fun _ => rfl, fun t => absurd (List.mem_append_right _ (List.mem_singleton.mpr rfl)) t⟩
    · rw [pk_un e]
      refine ⟨fun t => (h4 w hw).1 ?_, fun t => (h4 w hw).2 (fun t' => t (List.mem_append_left _ t'))⟩
      rcases List.mem_append.mp t with g | g
      · exact g
      · exact absurd (List.mem_singleton.mp g) e
  · intro i w hw
    rcases Nat.lt_trichotomy i Q.length with g | g | g
    · rw [List.getElem?_append_left g] at hw
      rw [pk_un (by omega)]
      exact h5 i w hw
    · rw [g, List.getElem?_concat_length] at hw
      rw [g, pk_us, Option.some.inj hw]
    · have g2 : i < (Q ++ [u]).length := (List.getElem?_eq_some_iff.mp hw).1
      rw [List.length_append] at g2
      have g3 : ([u] : List Nat).length = 1 := rfl
      omega
theorem eg_Q_pop {f : Nat} {Q : List Nat} {a6 a7 : Nat → Int32} {u : Nat} (h : eg_Q f (u :: Q) a6 a7) : eg_Q ((f + 1) % 8) Q (upd a6 u 0) a7 := by
  obtain ⟨h1, h2, h3, h4, h5⟩ := h
  obtain ⟨n1, n2⟩ := List.nodup_cons.mp h2
  refine ⟨by omega, n2, fun w hw => h3 w (List.mem_cons_of_mem _ hw), ?_, ?_⟩
  · intro w hw
    by_cases e : w = u
    · rw [e, pk_us]
      exact ⟨fun t => absurd t n1, fun _ => rfl⟩
    · rw [pk_un e]
      refine ⟨fun t => (h4 w hw).1 (List.mem_cons_of_mem _ t), fun t => (h4 w hw).2 (fun t' => ?_)⟩
      rcases List.mem_cons.mp t' with g | g
      · exact e g
      · exact t g
  · intro i w hw
    have t := h5 (i + 1) w (by rw [List.getElem?_cons_succ]; exact hw)
    rw [show ((f + 1) % 8 + i) % 8 = (f + (i + 1)) % 8 by omega]
    exact t
theorem eg_and7 {l : Nat} (h : l < 8) : nI l &&& 7 = nI l := by
  rw [pk_andN (by omega) 3 (by decide)]
  exact congrArg nI (by omega)
theorem eg_inc {l : Nat} (h : l < 8) : (nI l + 1) &&& 7 = nI ((l + 1) % 8) := by
  rw [nI_1, pk_andN (by omega) 3 (by decide)]
theorem eg_116 {post : St2 → Prop} {J46 : Int32 → Int32 → Int32 → (Nat → Int32) → (Nat → Int32) → (Nat → Int32) → (Nat → Int32) → (Nat → Int32) → (Nat → Int32) → (Nat → Int32) → Prop} {f s v : Nat} {cur : Int32} {a1 a2 a3 a4 a5 a6 a7 : Nat → Int32} {es : List (Nat × Nat × Nat)} {Q0 : List Nat}
    (hv : v < 3) (hE : eg_E es) (hl : es.length ≤ 5) (hK : eg_K es a1 a2 a3) (hQ : eg_Q f Q0 a6 a7)
    (H : ∀ Q b6 b7, eg_Q f Q b6 b7 → (∀ u, u ∈ Q0 → u ∈ Q) → (∀ x, x ∈ es → x.2.1 = v → x.1 ∈ Q) → J46 (nI f) (nI ((f + Q.length) % 8)) (nI (s + 1)) a1 a2 a3 a4 a5 b6 b7) :
    ∃ n, wX_solve_116 post J46 (nI f) (nI s) (nI v) (nI 3) (nI es.length) (nI 13) (-1) cur n (nI ((f + Q0.length) % 8)) 0 a1 a2 a3 a4 a5 a6 a7 := by
  refine pk_loop (σ := List Nat × (Nat → Int32) × (Nat → Int32)) (fun n i t => wX_solve_116 post J46 (nI f) (nI s) (nI v) (nI 3) (nI es.length) (nI 13) (-1) cur n (nI ((f + t.1.length) % 8)) (nI i) a1 a2 a3 a4 a5 t.2.1 t.2.2)
    (fun i t => eg_Q f t.1 t.2.1 t.2.2 ∧ (∀ u, u ∈ Q0 → u ∈ t.1) ∧ (∀ j x, j < i → es[j]? = some x → x.2.1 = v → x.1 ∈ t.1)) es.length 0 (Q0, a6, a7) (by omega) ⟨hQ, fun u h => h, fun j x h => absurd h (by omega)⟩ ?_ ?_
  · intro n t ⟨t1, t2, t3⟩
    refine pk_le es.length es.length (fun _ => nm_r (nI_1 s) (H _ _ _ t1 t2 ?_)) (fun z => absurd z (by omega))
    intro x hx hxv
    obtain ⟨j, hj, e⟩ := List.getElem_of_mem hx
    exact t3 j x hj (by rw [List.getElem?_eq_getElem hj, e]) hxv
  · intro n i t hi ⟨t1, t2, t3⟩ hw
    obtain ⟨Q, b6, b7⟩ := t
    dsimp only at t1 t2 t3 ⊢
    have hw' : ∀ (Q' : List Nat) (c6 c7 : Nat → Int32), eg_Q f Q' c6 c7 → (∀ u, u ∈ Q0 → u ∈ Q') → (∀ j x, j < i + 1 → es[j]? = some x → x.2.1 = v → x.1 ∈ Q') → wX_solve_116 post J46 (nI f) (nI s) (nI v) (nI 3) (nI es.length) (nI 13) (-1) cur n (nI ((f + Q'.length) % 8)) (nI (i + 1)) a1 a2 a3 a4 a5 c6 c7 :=
      fun Q' c6 c7 p1 p2 p3 => hw (Q', c6, c7) ⟨p1, p2, p3⟩
    obtain ⟨x, hx, hm⟩ := eg_at hi
    obtain ⟨k1, k2, k3⟩ := hK i x hx
    obtain ⟨e1, e2, e3⟩ := hE x hm
    have hlt : (f + Q.length) % 8 < 8 := Nat.mod_lt _ (by decide)
    have st : ∀ Q' : List Nat, (∀ u, u ∈ Q → u ∈ Q') → (x.2.1 = v → x.1 ∈ Q') → ∀ j y, j < i + 1 → es[j]? = some y → y.2.1 = v → y.1 ∈ Q' := by
      intro Q' q1 q2 j y hj hy hyv
      by_cases e : j = i
      · rw [e, hx] at hy
        have ey := Option.some.inj hy
        rw [← ey] at hyv ⊢
        exact q2 hyv
      · exact q1 _ (t3 j y (by omega) hy hyv)
    refine pk_le es.length i (fun z => absurd z (by omega)) (fun _ => ⟨pk_in i 14 (by omega), ?_⟩)
    rw [nI_clamp (show i < 2 ^ 31 by omega), k1, k2, nI_clamp (show x.1 < 2 ^ 31 by omega)]
    refine pk_eq x.2.1 v (fun z => ⟨pk_in i 14 (by omega), pk_in x.1 6 (by omega), ?_⟩) (fun z => nm_r (nI_1 i) (hw' Q b6 b7 t1 t2 (st Q (fun u h => h) (fun h => absurd h z))))
    by_cases hmem : x.1 ∈ Q
    · have h6 : b6 x.1 = 1 := (t1.2.2.2.1 x.1 e1).1 hmem
      exact br_f (by rw [h6]; decide) (nm_r (nI_1 i) (hw' Q b6 b7 t1 t2 (st Q (fun u h => h) (fun _ => hmem))))
    · have h6 : b6 x.1 = 0 := (t1.2.2.2.1 x.1 e1).2 hmem
      rw [eg_and7 hlt, nI_clamp (show (f + Q.length) % 8 < 2 ^ 31 by omega)]
      refine br_t h6 ⟨pk_in i 14 (by omega), pk_in x.1 6 (by omega), nm_e ⟨pk_in i 14 (by omega), pk_in ((f + Q.length) % 8) 8 hlt, nm_e (nm_r (eg_inc hlt) (nm_r (nI_1 i) ?_))⟩⟩
      have t := hw' (Q ++ [x.1]) _ _ (eg_Q_push t1 e1 hmem) (fun u h => List.mem_append_left _ (t2 u h)) (st _ (fun u h => List.mem_append_left _ h) (fun _ => List.mem_append_right _ (List.mem_singleton.mpr rfl)))
      rw [List.length_append, show ([x.1] : List Nat).length = 1 from rfl, show (f + (Q.length + 1)) % 8 = ((f + Q.length) % 8 + 1) % 8 by omega] at t
      exact t
/-- what does not change while needs are solved -/
def eg_S (m : Nat → Bool) (es : List (Nat × Nat × Nat)) (a1 a2 a3 a4 : Nat → Int32) : Prop := eg_E es ∧ es.length ≤ 5 ∧ eg_K es a1 a2 a3 ∧ ∀ v, v < 3 → m v = decide (a4 v = 0)
theorem eg_46 {post : St2 → Prop} {cur : Int32} {a1 a2 a3 a4 : Nat → Int32} {m : Nat → Bool} {es : List (Nat × Nat × Nat)} (hS : eg_S m es a1 a2 a3 a4)
    (H : ∀ b5 b6 b7, (∀ v, v < 3 → b5 v = nI (eg_L m es v)) → post (nI 3, nI es.length, nI 13, -1, cur, a1, a2, a3, a4, b5, b6, b7)) :
    ∀ (k f s : Nat) (Q : List Nat) (N : Nat → Nat) (a5 a6 a7 : Nat → Int32), eg_Q f Q a6 a7 → (∀ v, v < 3 → a5 v = nI (N v)) → (∀ v, v < 3 → N v ≤ eg_L m es v) → (∀ v, v < 3 → v ∉ Q → eg_F m es N v ≤ N v) →
      s + 4 * (39 - (N 0 + N 1 + N 2)) + Q.length ≤ 159 → 4 * (39 - (N 0 + N 1 + N 2)) + Q.length < k →
      wX_solve_46 post (nI 3) (nI es.length) (nI 13) (-1) cur k (nI f) (nI ((f + Q.length) % 8)) (nI s) a1 a2 a3 a4 a5 a6 a7 := by
  obtain ⟨hE, hl, hK, hO⟩ := hS
  intro k
  induction k with
  | zero => intro f s Q N a5 a6 a7 _ _ _ _ _ h; exact absurd h (by omega)
  | succ k ih =>
    intro f s Q N a5 a6 a7 hQ h5 hN hW hs hk
    have hlen := eg_Q_len hQ
    have hf := hQ.1
    have hlt : (f + Q.length) % 8 < 8 := Nat.mod_lt _ (by decide)
    refine pk_le 1200 s (fun z => absurd z (by omega)) (fun _ => ?_)
    refine pk_eq f ((f + Q.length) % 8) (fun z => ?_) (fun z => ?_)
    · have hq : Q = [] := List.eq_nil_of_length_eq_zero (by omega)
      refine H a5 a6 a7 (fun v hv => ?_)
      rw [h5 v hv]
      refine congrArg nI (eg_L_eq hE hN (fun u hu => hW u hu ?_) v hv)
      rw [hq]
      exact List.not_mem_nil
    · cases Q with
      | nil => exact absurd (show f = (f + 0) % 8 by omega) z
      | cons u Q' =>
        have hu : u < 3 := hQ.2.2.1 u List.mem_cons_self
        have h7 : a7 f = nI u := by
          have t := hQ.2.2.2.2 0 u rfl
          rw [show (f + 0) % 8 = f by omega] at t
          exact t
        have hlast : (f + (u :: Q').length) % 8 = ((f + 1) % 8 + Q'.length) % 8 := by
          rw [List.length_cons]; omega
        rw [List.length_cons] at hs hk hlen
        rw [hlast]
        rw [eg_and7 hf, nI_clamp (show f < 2 ^ 31 by omega)]
        have b13 : ∀ w, w < 3 → N w ≤ 13 := fun w hw => Nat.le_trans (hN w hw) (eg_L_le w)
        refine ⟨pk_in f 8 hf, nm_r h7 (nm_r (eg_inc hf) ⟨pk_in u 6 (by omega), nm_r (e' := upd a6 u 0) (by rw [nI_clamp (by omega)]) ?_⟩)⟩
        refine eg_wanted hu hE hl hK (hO u hu) h5 b13 ⟨pk_in u 6 (by omega), ?_⟩
        rw [nI_clamp (show u < 2 ^ 31 by omega), h5 u hu]
        have hFb := eg_Fb (m := m) (es := es) (N := N) u
        have bu := b13 u hu
        refine pk_le (eg_F m es N u) (N u) (fun z2 => nm_r (nI_1 s) ?_) (fun z2 => ⟨pk_in u 6 (by omega), nm_e ?_⟩)
        · refine ih ((f + 1) % 8) (s + 1) Q' N a5 (upd a6 u 0) a7 (eg_Q_pop hQ) h5 hN (fun w hw hwn => ?_) (by omega) (by omega)
          by_cases e : w = u
          · rw [e]; exact z2
          · refine hW w hw (fun t => ?_)
            rcases List.mem_cons.mp t with g | g
            · exact e g
            · exact hwn g
        · refine eg_116 hu hE hl hK (eg_Q_pop hQ) (fun R b6 b7 hR hsub hall => ?_)
          have hFL : eg_F m es N u ≤ eg_L m es u := by
            have t := eg_Fm (m := m) hE hN (fun w _ => eg_L_le w) u
            rw [eg_L_fix hE u hu] at t
            exact t
          have hRl := eg_Q_len hR
          refine ih ((f + 1) % 8) (s + 1) R (fun w => if w = u then eg_F m es N u else N w) (upd a5 u (nI (eg_F m es N u))) b6 b7 hR ?_ ?_ ?_ ?_ ?_
          · intro w hw
            by_cases e : w = u
            · rw [e, pk_us]; exact congrArg nI (if_pos rfl).symm
            · rw [pk_un e, h5 w hw]; exact congrArg nI (if_neg e).symm
          · intro w hw
            show (if w = u then eg_F m es N u else N w) ≤ _
            by_cases e : w = u
            · rw [if_pos e, e]; exact hFL
            · rw [if_neg e]; exact hN w hw
          · intro w hw hwR
            have hc : eg_F m es (fun w => if w = u then eg_F m es N u else N w) w = eg_F m es N w := by
              refine eg_Fc w (fun x hx hxw => ?_)
              refine if_neg (fun t => hwR ?_)
              rw [← hxw]
              exact hall x hx t
            rw [hc]
            show _ ≤ (if w = u then eg_F m es N u else N w)
            by_cases e : w = u
            · rw [if_pos e, e]; exact Nat.le_refl _
            · rw [if_neg e]
              refine hW w hw (fun t => ?_)
              rcases List.mem_cons.mp t with g | g
              · exact e g
              · exact hwR (hsub w g)
          · have b0 := b13 0 (by omega)
            have b1 := b13 1 (by omega)
            have b2 := b13 2 (by omega)
            rcases (by omega : u = 0 ∨ u = 1 ∨ u = 2) with rfl | rfl | rfl <;> simp <;> omega
          · have b0 := b13 0 (by omega)
            have b1 := b13 1 (by omega)
            have b2 := b13 2 (by omega)
            rcases (by omega : u = 0 ∨ u = 1 ∨ u = 2) with rfl | rfl | rfl <;> simp <;> omega
theorem eg_Q0 {a6 a7 : Nat → Int32} (h : ∀ j, j < 3 → a6 j = 1 ∧ a7 j = nI j) : eg_Q 0 [0, 1, 2] a6 a7 := by
  refine ⟨by decide, by decide, by decide, ?_, ?_⟩
  · intro u hu
    refine ⟨fun _ => (h u hu).1, fun t => absurd ?_ t⟩
    exact co_3 (P := fun u => u ∈ [0, 1, 2]) (by decide) (by decide) (by decide) hu
  · intro i u hi
    match i, hi with
    | 0, hi => rw [← Option.some.inj hi]; exact (h 0 (by decide)).2
    | 1, hi => rw [← Option.some.inj hi]; exact (h 1 (by decide)).2
    | 2, hi => rw [← Option.some.inj hi]; exact (h 2 (by decide)).2
    | n + 3, hi => exact absurd hi.symm (Option.some_ne_none u)
theorem eg_solve {post : St2 → Prop} {cur : Int32} {a1 a2 a3 a4 a5 a6 a7 : Nat → Int32} {m : Nat → Bool} {es : List (Nat × Nat × Nat)} (hS : eg_S m es a1 a2 a3 a4)
    (H : ∀ b5 b6 b7, (∀ v, v < 3 → b5 v = nI (eg_L m es v)) → post (nI 3, nI es.length, nI 13, -1, cur, a1, a2, a3, a4, b5, b6, b7)) :
    wpX_solve post (nI 3, nI es.length, nI 13, -1, cur, a1, a2, a3, a4, a5, a6, a7) := by
  refine pk_loop (σ := (Nat → Int32) × (Nat → Int32) × (Nat → Int32)) (fun n i t => wX_solve_6 post 0 (nI 3) (nI es.length) (nI 13) (-1) cur n (nI i) (nI i) a1 a2 a3 a4 t.1 t.2.1 t.2.2)
    (fun i t => ∀ j, j < i → t.1 j = 0 ∧ t.2.1 j = 1 ∧ t.2.2 j = nI j) 3 0 (a5, a6, a7) (by omega) (fun j hj => absurd hj (by omega)) ?_ ?_
  · intro n t ht
    refine pk_le 3 3 (fun _ => ⟨160, ?_⟩) (fun z => absurd z (by omega))
    have hq : (0 + ([0, 1, 2] : List Nat).length) % 8 = 3 := by decide
    have g := eg_46 (cur := cur) hS H 160 0 0 [0, 1, 2] (fun _ => 0) t.1 t.2.1 t.2.2 (eg_Q0 (fun j hj => (ht j hj).2)) (fun v hv => (ht v hv).1) (fun v _ => Nat.zero_le _)
      (fun v hv hn => absurd (co_3 (P := fun u => u ∈ [0, 1, 2]) (by decide) (by decide) (by decide) hv) hn) (by decide) (by decide)
    rw [hq] at g
    exact g
  · intro n i t hi ht hw
    obtain ⟨b5, b6, b7⟩ := t
    refine pk_le 3 i (fun z => absurd z (by omega)) (fun _ => ⟨pk_in i 6 (by omega), ?_⟩)
    rw [nI_clamp (show i < 2 ^ 31 by omega)]
    refine nm_e ⟨pk_in i 6 (by omega), nm_e ⟨pk_in i 8 (by omega), nm_e (nm_r (nI_1 i) (nm_r (nI_1 i) (hw (upd b5 i 0, upd b6 i 1, upd b7 i (nI i)) ?_)))⟩⟩
    intro j hj
    show upd b5 i 0 j = 0 ∧ upd b6 i 1 j = 1 ∧ upd b7 i (nI i) j = nI j
    by_cases e : j = i
    · rw [e, pk_us, pk_us, pk_us]; exact ⟨rfl, rfl, rfl⟩
    · rw [pk_un e, pk_un e, pk_un e]; exact ht j (by omega)
theorem eg_refresh {post : St2 → Prop} {cur : Int32} {a1 a2 a3 a4 a5 a6 a7 : Nat → Int32} {m : Nat → Bool} {es : List (Nat × Nat × Nat)} (hS : eg_S m es a1 a2 a3 a4) (hc : cur = 0 ∨ (cur = 1 ∧ ∀ v, v < 3 → a5 v = nI (eg_L m es v)))
    (H : ∀ b5 b6 b7, (∀ v, v < 3 → b5 v = nI (eg_L m es v)) → post (nI 3, nI es.length, nI 13, -1, 1, a1, a2, a3, a4, b5, b6, b7)) :
    wpX_refresh post (nI 3, nI es.length, nI 13, -1, cur, a1, a2, a3, a4, a5, a6, a7) := by
  rcases hc with h | ⟨h, h5⟩
  · exact br_t h (eg_solve hS (fun b5 b6 b7 hb => H b5 b6 b7 hb))
  · rw [h]
    exact br_f (by decide) (H a5 a6 a7 h5)
end
section
/-! the answers: need, hopeless, safe, greatest, over the needs L -/
def eg_lo (L : Nat → Nat) : Nat → Nat
  | 0 => 0
  | k + 1 => if L k = 13 then eg_lo L k + 1 else eg_lo L k
def eg_sa (L : Nat → Nat) (c : Int32) : Nat → Int32
  | 0 => 0
  | k + 1 => if L k = 13 ∨ c < nI (L k) then eg_sa L c k else eg_sa L c k ||| ((1 : Int32) <<< (nI k &&& 31))
def eg_mo (L : Nat → Nat) : Nat → Nat
  | 0 => 0
  | k + 1 => if L k = 13 ∨ L k ≤ eg_mo L k then eg_mo L k else L k
theorem eg_lo_t {L : Nat → Nat} {k : Nat} (h : L k = 13) : eg_lo L (k + 1) = eg_lo L k + 1 := if_pos h
theorem eg_lo_f {L : Nat → Nat} {k : Nat} (h : ¬ L k = 13) : eg_lo L (k + 1) = eg_lo L k := if_neg h
theorem eg_sa_t {L : Nat → Nat} {c : Int32} {k : Nat} (h : L k = 13 ∨ c < nI (L k)) : eg_sa L c (k + 1) = eg_sa L c k := if_pos h
theorem eg_sa_f {L : Nat → Nat} {c : Int32} {k : Nat} (h : ¬ (L k = 13 ∨ c < nI (L k))) : eg_sa L c (k + 1) = eg_sa L c k ||| ((1 : Int32) <<< (nI k &&& 31)) := if_neg h
theorem eg_mo_t {L : Nat → Nat} {k : Nat} (h : L k = 13 ∨ L k ≤ eg_mo L k) : eg_mo L (k + 1) = eg_mo L k := if_pos h
theorem eg_mo_f {L : Nat → Nat} {k : Nat} (h : ¬ (L k = 13 ∨ L k ≤ eg_mo L k)) : eg_mo L (k + 1) = L k := if_neg h
theorem eg_mo_le {L : Nat → Nat} (hL : ∀ v, L v ≤ 13) : ∀ k, eg_mo L k ≤ 13 := by
  intro k
  induction k with
  | zero => exact Nat.zero_le _
  | succ k ih =>
    by_cases h : L k = 13 ∨ L k ≤ eg_mo L k
    · rw [eg_mo_t h]; exact ih
    · rw [eg_mo_f h]; exact hL k
theorem eg_sa_neg {L : Nat → Nat} (hL : ∀ v, L v ≤ 13) : ∀ k, eg_sa L (-1) k = 0 := by
  intro k
  induction k with
  | zero => rfl
  | succ k ih =>
    have t : ∀ n, n < 14 → (-1 : Int32) < nI n := by decide +kernel
    have := hL k
    rw [eg_sa_t (Or.inr (t _ (by omega)))]
    exact ih
theorem eg_hop8 {post : Int32 → St2 → Prop} {f1 f3 f4 : Int32} {a1 a2 a3 a4 a5 a6 a7 : Nat → Int32} {L : Nat → Nat} (hL : ∀ v, L v ≤ 13) (h5 : ∀ v, v < 3 → a5 v = nI (L v))
    (H : post (nI (eg_lo L 3)) (nI 3, f1, nI 13, f3, f4, a1, a2, a3, a4, a5, a6, a7)) : ∃ n, wX_hopeless_8 post (nI 3) f1 (nI 13) f3 f4 a1 a2 a3 a4 a5 a6 a7 n 0 0 := by
  refine pk_loop (σ := Unit) (fun n i _ => wX_hopeless_8 post (nI 3) f1 (nI 13) f3 f4 a1 a2 a3 a4 a5 a6 a7 n (nI (eg_lo L i)) (nI i)) (fun _ _ => True) 3 0 () (by omega) trivial ?_ ?_
  · intro n _ _
    exact pk_le 3 3 (fun _ => H) (fun z => absurd z (by omega))
  · intro n i _ hi _ hw
    have K : wX_hopeless_8 post (nI 3) f1 (nI 13) f3 f4 a1 a2 a3 a4 a5 a6 a7 n (nI (eg_lo L (i + 1))) (nI (i + 1)) := hw () trivial
    have hb := hL i
    refine pk_le 3 i (fun z => absurd z (by omega)) (fun _ => ⟨pk_in i 6 (by omega), ?_⟩)
    rw [nI_clamp (show i < 2 ^ 31 by omega), h5 i hi]
    refine pk_eq (L i) 13 (fun z => ?_) (fun z => ?_)
    · rw [eg_lo_t z] at K
      exact nm_r (nI_1 _) (nm_r (nI_1 i) K)
    · rw [eg_lo_f z] at K
      exact nm_r (nI_add _ 0) (nm_r (nI_1 i) K)
theorem eg_safe8 {post : Int32 → St2 → Prop} {c f1 f3 f4 : Int32} {a1 a2 a3 a4 a5 a6 a7 : Nat → Int32} {L : Nat → Nat} (hL : ∀ v, L v ≤ 13) (h5 : ∀ v, v < 3 → a5 v = nI (L v))
    (H : post (eg_sa L c 3) (nI 3, f1, nI 13, f3, f4, a1, a2, a3, a4, a5, a6, a7)) : ∃ n, wX_safe_8 post c (nI 3) f1 (nI 13) f3 f4 a1 a2 a3 a4 a5 a6 a7 n 0 0 := by
  refine pk_loop (σ := Unit) (fun n i _ => wX_safe_8 post c (nI 3) f1 (nI 13) f3 f4 a1 a2 a3 a4 a5 a6 a7 n (eg_sa L c i) (nI i)) (fun _ _ => True) 3 0 () (by omega) trivial ?_ ?_
  · intro n _ _
    exact pk_le 3 3 (fun _ => H) (fun z => absurd z (by omega))
  · intro n i _ hi _ hw
    have K : wX_safe_8 post c (nI 3) f1 (nI 13) f3 f4 a1 a2 a3 a4 a5 a6 a7 n (eg_sa L c (i + 1)) (nI (i + 1)) := hw () trivial
    have hb := hL i
    refine pk_le 3 i (fun z => absurd z (by omega)) (fun _ => ⟨pk_in i 6 (by omega), ?_⟩)
    rw [nI_clamp (show i < 2 ^ 31 by omega), h5 i hi]
    refine pk_le 13 (L i) (fun z => ?_) (fun z => ⟨pk_in i 6 (by omega), br_c (fun g => ?_) (fun g => ?_)⟩)
    · rw [eg_sa_t (Or.inl (by omega))] at K
      exact nm_r (nI_1 i) K
    · rw [eg_sa_t (Or.inr g)] at K
      exact nm_r (nI_1 i) K
    · rw [eg_sa_f (fun t => t.elim (fun t => by omega) g)] at K
      exact nm_e (nm_r (nI_1 i) K)
theorem eg_great8 {post : Int32 → St2 → Prop} {f1 f3 f4 : Int32} {a1 a2 a3 a4 a5 a6 a7 : Nat → Int32} {L : Nat → Nat} (hL : ∀ v, L v ≤ 13) (h5 : ∀ v, v < 3 → a5 v = nI (L v))
    (H : post (nI (eg_mo L 3)) (nI 3, f1, nI 13, f3, f4, a1, a2, a3, a4, a5, a6, a7)) : ∃ n, wX_greatest_8 post (nI 3) f1 (nI 13) f3 f4 a1 a2 a3 a4 a5 a6 a7 n 0 0 := by
  refine pk_loop (σ := Unit) (fun n i _ => wX_greatest_8 post (nI 3) f1 (nI 13) f3 f4 a1 a2 a3 a4 a5 a6 a7 n (nI (eg_mo L i)) (nI i)) (fun _ _ => True) 3 0 () (by omega) trivial ?_ ?_
  · intro n _ _
    exact pk_le 3 3 (fun _ => H) (fun z => absurd z (by omega))
  · intro n i _ hi _ hw
    have K : wX_greatest_8 post (nI 3) f1 (nI 13) f3 f4 a1 a2 a3 a4 a5 a6 a7 n (nI (eg_mo L (i + 1))) (nI (i + 1)) := hw () trivial
    have hb := hL i
    have hmb := eg_mo_le hL i
    refine pk_le 3 i (fun z => absurd z (by omega)) (fun _ => ⟨pk_in i 6 (by omega), ?_⟩)
    rw [nI_clamp (show i < 2 ^ 31 by omega), h5 i hi]
    refine pk_le 13 (L i) (fun z => ?_) (fun z => ⟨pk_in i 6 (by omega), pk_le (L i) (eg_mo L i) (fun g => ?_) (fun g => ⟨pk_in i 6 (by omega), ?_⟩)⟩)
    · rw [eg_mo_t (Or.inl (by omega))] at K
      exact nm_r (nI_1 i) K
    · rw [eg_mo_t (Or.inr g)] at K
      exact nm_r (nI_1 i) K
    · rw [eg_mo_f (fun t => by omega)] at K
      exact nm_e (nm_r (nI_1 i) K)
section
variable {post : Int32 → St2 → Prop} {cur : Int32} {a1 a2 a3 a4 a5 a6 a7 : Nat → Int32} {m : Nat → Bool} {es : List (Nat × Nat × Nat)}
theorem eg_hopeless (hS : eg_S m es a1 a2 a3 a4) (hc : cur = 0 ∨ (cur = 1 ∧ ∀ v, v < 3 → a5 v = nI (eg_L m es v)))
    (H : ∀ b5 b6 b7, (∀ v, v < 3 → b5 v = nI (eg_L m es v)) → post (nI (eg_lo (eg_L m es) 3)) (nI 3, nI es.length, nI 13, -1, 1, a1, a2, a3, a4, b5, b6, b7)) :
    wpX_hopeless post (nI 3, nI es.length, nI 13, -1, cur, a1, a2, a3, a4, a5, a6, a7) := by
  unfold wpX_hopeless
  exact eg_refresh hS hc (fun b5 b6 b7 hb => eg_hop8 (fun v => eg_L_le v) hb (H b5 b6 b7 hb))
theorem eg_safe {c : Int32} (hS : eg_S m es a1 a2 a3 a4) (hc : cur = 0 ∨ (cur = 1 ∧ ∀ v, v < 3 → a5 v = nI (eg_L m es v)))
    (H : ∀ b5 b6 b7, (∀ v, v < 3 → b5 v = nI (eg_L m es v)) → post (eg_sa (eg_L m es) c 3) (nI 3, nI es.length, nI 13, -1, 1, a1, a2, a3, a4, b5, b6, b7)) :
    wpX_safe post (nI 3, nI es.length, nI 13, -1, cur, a1, a2, a3, a4, a5, a6, a7) c := by
  unfold wpX_safe
  exact eg_refresh hS hc (fun b5 b6 b7 hb => eg_safe8 (fun v => eg_L_le v) hb (H b5 b6 b7 hb))
theorem eg_greatest (hS : eg_S m es a1 a2 a3 a4) (hc : cur = 0 ∨ (cur = 1 ∧ ∀ v, v < 3 → a5 v = nI (eg_L m es v)))
    (H : ∀ b5 b6 b7, (∀ v, v < 3 → b5 v = nI (eg_L m es v)) → post (nI (eg_mo (eg_L m es) 3)) (nI 3, nI es.length, nI 13, -1, 1, a1, a2, a3, a4, b5, b6, b7)) :
    wpX_greatest post (nI 3, nI es.length, nI 13, -1, cur, a1, a2, a3, a4, a5, a6, a7) := by
  unfold wpX_greatest
  exact eg_refresh hS hc (fun b5 b6 b7 hb => eg_great8 (fun v => eg_L_le v) hb (H b5 b6 b7 hb))
theorem eg_need {v : Nat} (hv : v < 3) (hS : eg_S m es a1 a2 a3 a4) (hc : cur = 0 ∨ (cur = 1 ∧ ∀ v, v < 3 → a5 v = nI (eg_L m es v)))
    (Ht : eg_L m es v = 13 → ∀ b5 b6 b7, (∀ v, v < 3 → b5 v = nI (eg_L m es v)) → post (-2) (nI 3, nI es.length, nI 13, -1, 1, a1, a2, a3, a4, b5, b6, b7))
    (Hf : eg_L m es v ≠ 13 → ∀ b5 b6 b7, (∀ v, v < 3 → b5 v = nI (eg_L m es v)) → post (nI (eg_L m es v)) (nI 3, nI es.length, nI 13, -1, 1, a1, a2, a3, a4, b5, b6, b7)) :
    wpX_need post (nI 3, nI es.length, nI 13, -1, cur, a1, a2, a3, a4, a5, a6, a7) (nI v) := by
  unfold wpX_need
  refine eg_isV hv (br_f (by decide) (eg_refresh hS hc (fun b5 b6 b7 hb => ?_)))
  have hb13 := eg_L_le (m := m) (es := es) v
  refine ⟨pk_in v 6 (by omega), ?_⟩
  rw [nI_clamp (show v < 2 ^ 31 by omega), hb v hv]
  exact pk_eq (eg_L m es v) 13 (fun z => Ht z b5 b6 b7 hb) (fun z => ⟨pk_in v 6 (by omega), Hf z b5 b6 b7 hb⟩)
end
end
section
/-! the law -/
theorem eg_207 {post : Int32 → St0 → Prop} {mc ms kc ks : Nat} {x3 cur : Int32} {a1 a2 a3 a4 a5 a6 a7 : Nat → Int32} {m : Nat → Bool} {es : List (Nat × Nat × Nat)} (hp : post 1 ()) (hS : eg_S m es a1 a2 a3 a4) (hc : cur = 0) :
    ∃ n, wL_lawOf_207 post mc ms x3 (nI es.length) (nI (eg_pk (eg_L m es) 3)) kc ks n 0 0 0 0 (nI 3) (nI es.length) (nI 13) (-1) cur a1 a2 a3 a4 a5 a6 a7 := by
  refine pk_loop (σ := Int32 × (Nat → Int32) × (Nat → Int32) × (Nat → Int32)) (fun n i t => wL_lawOf_207 post mc ms x3 (nI es.length) (nI (eg_pk (eg_L m es) 3)) kc ks n (nI (eg_lo (eg_L m es) i)) (eg_sa (eg_L m es) (x3 &&& 15) i) (nI (eg_mo (eg_L m es) i)) (nI i) (nI 3) (nI es.length) (nI 13) (-1) t.1 a1 a2 a3 a4 t.2.1 t.2.2.1 t.2.2.2)
    (fun i t => t.1 = 0 ∨ (t.1 = 1 ∧ ∀ v, v < 3 → t.2.1 v = nI (eg_L m es v))) 3 0 (cur, a5, a6, a7) (by omega) (Or.inl hc) ?_ ?_
  · intro n t ht
    refine pk_le 3 3 (fun _ => ?_) (fun z => absurd z (by omega))
    refine eg_hopeless hS ht (fun b5 b6 b7 hb => br_t rfl ?_)
    refine eg_safe hS (Or.inr ⟨rfl, hb⟩) (fun c5 c6 c7 hc => br_t rfl ?_)
    refine eg_greatest hS (Or.inr ⟨rfl, hc⟩) (fun d5 d6 d7 hd => br_t rfl ?_)
    refine br_t rfl ?_
    refine eg_safe hS (Or.inr ⟨rfl, hd⟩) (fun e5 e6 e7 he => br_t ?_ hp)
    exact eg_sa_neg (fun v => eg_L_le v) 3
  · intro n i t hi ht hw
    have K : ∀ b5 b6 b7, (∀ v, v < 3 → b5 v = nI (eg_L m es v)) → wL_lawOf_207 post mc ms x3 (nI es.length) (nI (eg_pk (eg_L m es) 3)) kc ks n (nI (eg_lo (eg_L m es) (i + 1))) (eg_sa (eg_L m es) (x3 &&& 15) (i + 1)) (nI (eg_mo (eg_L m es) (i + 1))) (nI (i + 1)) (nI 3) (nI es.length) (nI 13) (-1) 1 a1 a2 a3 a4 b5 b6 b7 :=
      fun b5 b6 b7 hb => hw (1, b5, b6, b7) (Or.inr ⟨rfl, hb⟩)
    have hb13 := eg_L_le (m := m) (es := es) i
    have hmo := eg_mo_le (L := eg_L m es) (fun v => eg_L_le v) i
    refine pk_le 3 i (fun z => absurd z (by omega)) (fun _ => nm_r (eg_ex (N := eg_L m es) (fun v => eg_L_le v) hi) ?_)
    refine eg_need hi hS ht (fun z b5 b6 b7 hb => ?_) (fun z b5 b6 b7 hb => ?_)
    · have k := K b5 b6 b7 hb
      rw [eg_lo_t z, eg_sa_t (Or.inl z), eg_mo_t (Or.inl z)] at k
      rw [z]
      exact br_t rfl (br_t rfl (br_t rfl (nm_r (nI_1 _) (br_t rfl (br_t rfl (nm_r (nI_1 i) k))))))
    · have k := K b5 b6 b7 hb
      rw [eg_lo_f z] at k
      rw [eg_enc_ne z]
      have h99 : ¬ nI (eg_L m es i) = 99 := fun t => by
        have := (nI_eq (a := eg_L m es i) (b := 99) (by omega) (by omega)).mp t
        omega
      refine br_f h99 (br_t rfl (br_f h99 (br_f h99 (br_c (fun g => ?_) (fun g => nm_e ?_)))))
      · rw [eg_sa_t (Or.inr g)] at k
        refine br_f h99 (pk_le (eg_L m es i) (eg_mo (eg_L m es) i) (fun g2 => ?_) (fun g2 => ?_))
        · rw [eg_mo_t (Or.inr g2)] at k
          exact nm_r (nI_1 i) k
        · rw [eg_mo_f (fun t => by omega)] at k
          exact nm_r (nI_1 i) k
      · rw [eg_sa_f (fun t => t.elim z g)] at k
        refine br_f h99 (pk_le (eg_L m es i) (eg_mo (eg_L m es) i) (fun g2 => ?_) (fun g2 => ?_))
        · rw [eg_mo_t (Or.inr g2)] at k
          exact nm_r (nI_1 i) k
        · rw [eg_mo_f (fun t => by omega)] at k
          exact nm_r (nI_1 i) k
section
variable {post : Int32 → St0 → Prop} {mc ms kc ks : Nat} {p q o x3 : Int32} {a1 a2 a3 a4 a5 a6 a7 : Nat → Int32}
theorem eg_154 (hp : post 1 ()) (hS : eg_S (eg_m o) (eg_ed (eg_X p q) 5) a1 a2 a3 a4) :
    ∃ n, wL_lawOf_154 post mc ms p q o x3 (nI (eg_set (eg_X p q) 5)) (nI (eg_ed (eg_X p q) 5).length) kc ks (nI 3) (nI (eg_ed (eg_X p q) 5).length) (nI 13) (-1) 0 a1 a2 a3 a4 a5 a6 a7 n 0 0 := by
  have e0 : nI (eg_pk (eg_it (eg_m o) (eg_ed (eg_X p q) 5) (8 * 0)) 3) = 0 := by
    have z0 : ∀ v, eg_it (eg_m o) (eg_ed (eg_X p q) 5) (8 * 0) v = 0 := fun _ => rfl
    rw [eg_pk3, z0, z0, z0, show eg_enc 0 = 0 from rfl]
    rfl
  suffices h : ∃ n, wL_lawOf_154 post mc ms p q o x3 (nI (eg_set (eg_X p q) 5)) (nI (eg_ed (eg_X p q) 5).length) kc ks (nI 3) (nI (eg_ed (eg_X p q) 5).length) (nI 13) (-1) 0 a1 a2 a3 a4 a5 a6 a7 n (nI (eg_pk (eg_it (eg_m o) (eg_ed (eg_X p q) 5) (8 * 0)) 3)) (nI 0) by
    rw [e0] at h
    exact h
  refine pk_loop (σ := Unit) (fun n i _ => wL_lawOf_154 post mc ms p q o x3 (nI (eg_set (eg_X p q) 5)) (nI (eg_ed (eg_X p q) 5).length) kc ks (nI 3) (nI (eg_ed (eg_X p q) 5).length) (nI 13) (-1) 0 a1 a2 a3 a4 a5 a6 a7 n (nI (eg_pk (eg_it (eg_m o) (eg_ed (eg_X p q) 5) (8 * i)) 3)) (nI i)) (fun _ _ => True) 8 0 () (by omega) trivial ?_ ?_
  · intro n _ _
    exact pk_le 8 8 (fun _ => eg_207 hp hS rfl) (fun z => absurd z (by omega))
  · intro n i _ hi _ hw
    have K : wL_lawOf_154 post mc ms p q o x3 (nI (eg_set (eg_X p q) 5)) (nI (eg_ed (eg_X p q) 5).length) kc ks (nI 3) (nI (eg_ed (eg_X p q) 5).length) (nI 13) (-1) 0 a1 a2 a3 a4 a5 a6 a7 n (nI (eg_pk (eg_it (eg_m o) (eg_ed (eg_X p q) 5) (8 * (i + 1))) 3)) (nI (i + 1)) := hw () trivial
    rw [Nat.mul_succ] at K
    refine pk_le 8 i (fun z => absurd z (by omega)) (fun _ => ?_)
    refine pk_loop (σ := Unit) (fun n2 j _ => wL_lawOf_164 post mc ms (wL_lawOf_154 post mc ms p q o x3 (nI (eg_set (eg_X p q) 5)) (nI (eg_ed (eg_X p q) 5).length) kc ks (nI 3) (nI (eg_ed (eg_X p q) 5).length) (nI 13) (-1) 0 a1 a2 a3 a4 a5 a6 a7 n) p q o x3 (nI (eg_set (eg_X p q) 5)) (nI (eg_ed (eg_X p q) 5).length) (nI i) kc ks (nI 3) (nI (eg_ed (eg_X p q) 5).length) (nI 13) (-1) 0 a1 a2 a3 a4 a5 a6 a7 n2 (nI (eg_pk (eg_it (eg_m o) (eg_ed (eg_X p q) 5) (8 * i + j)) 3)) (nI j)) (fun _ _ => True) 8 0 () (by omega) trivial ?_ ?_
    · intro n2 _ _
      exact pk_le 8 8 (fun _ => nm_r (nI_1 i) K) (fun z => absurd z (by omega))
    · intro n2 j _ hj _ hw2
      exact pk_le 8 j (fun z => absurd z (by omega)) (fun _ => eg_next (fun v => eg_it_le _ v) (nm_r (nI_1 j) (hw2 () trivial)))
theorem eg_122 (hp : post 1 ()) (hE : eg_E (eg_ed (eg_X p q) 5)) (hl : (eg_ed (eg_X p q) 5).length ≤ 5) (hK : eg_K (eg_ed (eg_X p q) 5) a1 a2 a3) :
    ∃ n, wL_lawOf_122 post mc ms p q o x3 (nI (eg_set (eg_X p q) 5)) (nI (eg_ed (eg_X p q) 5).length) kc ks n 0 (nI 3) (nI (eg_ed (eg_X p q) 5).length) (nI 13) (-1) 0 a1 a2 a3 a4 a5 a6 a7 := by
  refine pk_loop (σ := Nat → Int32) (fun n i t => wL_lawOf_122 post mc ms p q o x3 (nI (eg_set (eg_X p q) 5)) (nI (eg_ed (eg_X p q) 5).length) kc ks n (nI i) (nI 3) (nI (eg_ed (eg_X p q) 5).length) (nI 13) (-1) 0 a1 a2 a3 t a5 a6 a7) (fun i t => ∀ v, v < i → t v = (o >>> (nI v &&& 31)) &&& 1) 3 0 a4 (by omega) (fun v h => absurd h (by omega)) ?_ ?_
  · intro n t ht
    refine pk_le 3 3 (fun _ => eg_154 hp ⟨hE, hl, hK, fun v hv => ?_⟩) (fun z => absurd z (by omega))
    rw [ht v hv]
    rfl
  · intro n i t hi ht hw
    have hb : (o >>> (nI i &&& 31)) &&& 1 = 0 ∨ (o >>> (nI i &&& 31)) &&& 1 = 1 := by
      obtain ⟨j, hj, e⟩ := pk_andE (o >>> (nI i &&& 31)) (m := 1) 1 (by decide)
      rw [e]
      rcases (by omega : j = 0 ∨ j = 1) with h | h
      · rw [h]; exact Or.inl rfl
      · rw [h]; exact Or.inr rfl
    refine pk_le 3 i (fun z => absurd z (by omega)) (fun _ => eg_give hi hb (fun r => nm_r (nI_1 i) (hw _ ?_)))
    intro v hv
    by_cases e : v = i
    · rw [e, pk_us]
    · rw [pk_un e]; exact ht v (by omega)
theorem eg_23 (hp : post 1 ()) :
    ∃ n, wL_lawOf_23 post mc ms p q o x3 (nI (eg_set (eg_X p q) 5)) kc ks n 0 0 (nI 3) 0 (nI 13) (-1) 0 a1 a2 a3 a4 a5 a6 a7 := by
  refine pk_loop (σ := (Nat → Int32) × (Nat → Int32) × (Nat → Int32)) (fun n i t => wL_lawOf_23 post mc ms p q o x3 (nI (eg_set (eg_X p q) 5)) kc ks n (nI (eg_ed (eg_X p q) i).length) (nI i) (nI 3) (nI (eg_ed (eg_X p q) i).length) (nI 13) (-1) 0 t.1 t.2.1 t.2.2 a4 a5 a6 a7) (fun i t => eg_K (eg_ed (eg_X p q) i) t.1 t.2.1 t.2.2) 5 0 (a1, a2, a3) (by omega) (fun i x h => absurd h.symm (Option.some_ne_none x)) ?_ ?_
  · intro n t ht
    exact pk_le 5 5 (fun _ => eg_122 hp (eg_ed_E (eg_X_in p q) 5) (eg_ed_len _ 5) ht) (fun z => absurd z (by omega))
  · intro n i t hi ht hw
    have hlen := eg_ed_len (eg_X p q) i
    have hd := eg_dg_le (eg_X p q) i (eg_X p q i).1
    have hbt := eg_bt_le (eg_X p q) i
    refine pk_le 5 i (fun z => absurd z (by omega)) (fun _ => eg_part hi (eg_begin (eg_end (eg_gain ?_))))
    refine pk_eq (eg_bt (eg_X p q) i) 1 (fun b => ?_) (fun b => ?_) (hx := eg_bit _ hi)
    · have b' := eg_bt_iff.mp b
      refine eg_link (x := eg_X p q i) (eg_ed_E (eg_X_in p q) i) (by omega) hd (eg_X_in p q i) ht (fun h => absurd b' h) (fun _ b1 b2 b3 hb => ?_)
      have hw1 : eg_K (eg_ed (eg_X p q) (i + 1)) b1 b2 b3 → wL_lawOf_23 post mc ms p q o x3 (nI (eg_set (eg_X p q) 5)) kc ks n (nI (eg_ed (eg_X p q) (i + 1)).length) (nI (i + 1)) (nI 3) (nI (eg_ed (eg_X p q) (i + 1)).length) (nI 13) (-1) 0 b1 b2 b3 a4 a5 a6 a7 := hw (b1, b2, b3)
      rw [eg_ed_t b'] at hw1
      have k := hw1 hb
      rw [List.length_append] at k
      refine br_f (by decide) (br_t rfl (br_f (by decide) (nm_r (nI_1 _) (nm_r (nI_1 i) ?_))))
      rw [List.length_append]
      exact k
    · have b' : ¬ eg_dg (eg_ed (eg_X p q) i) (eg_X p q i).1 < 3 := fun t => b (eg_bt_t t)
      refine eg_link (x := eg_X p q i) (eg_ed_E (eg_X_in p q) i) (by omega) hd (eg_X_in p q i) ht (fun _ => ?_) (fun h => absurd h b')
      have hw1 : eg_K (eg_ed (eg_X p q) (i + 1)) t.1 t.2.1 t.2.2 → wL_lawOf_23 post mc ms p q o x3 (nI (eg_set (eg_X p q) 5)) kc ks n (nI (eg_ed (eg_X p q) (i + 1)).length) (nI (i + 1)) (nI 3) (nI (eg_ed (eg_X p q) (i + 1)).length) (nI 13) (-1) 0 t.1 t.2.1 t.2.2 a4 a5 a6 a7 := hw t
      rw [eg_ed_f b'] at hw1
      exact br_t rfl (br_t rfl (br_t rfl (nm_r (nI_1 i) (hw1 ht))))
theorem eg_lawOf (hp : post 1 ()) : wpL_lawOf post 54 864 () p q o x3 := by
  refine ⟨by omega, by omega, 53, 852, by omega, by omega, ?_⟩
  refine ⟨by omega, by omega, by omega, by omega, by omega, by omega, by omega, by omega, by omega, by omega, by omega, by omega, by omega, by omega, ?_⟩
  refine br_t (by decide) (br_t (by decide) (nm_r (e' := nI 13) (by decide) ?_))
  exact eg_there (eg_23 hp)
end
theorem eg_cell {post : Int32 → Prop} {L : Nat} {xs : Nat → Int32} (hL : L ≤ 4) {i : Nat} (hi : i < 4) (H : ∀ r, post r) : wpL_cellAt post L xs () (nI i) :=
  pk_le L i (fun _ => H 0) (fun z => ⟨pk_in i L z, H _⟩)
theorem i_vc (xs : Nat → Int32) (L : Nat) (hL : L ≤ 4) : wpL_law (fun r => r = 1) L xs :=
  eg_cell (i := 0) hL (by omega) (fun r1 => eg_cell (i := 1) hL (by omega) (fun r2 => eg_cell (i := 2) hL (by omega) (fun r3 => eg_cell (i := 3) hL (by omega) (fun r4 => ⟨54, 864, by omega, by omega, eg_lawOf rfl⟩))))
end
