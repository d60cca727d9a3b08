section
/-! what the tables hold, in plain numbers -/
/-- one literal node with the types s (bits) and the costs q: is type t there at cost c -/
def ov_i (s : Nat) (q : Nat → Nat) (t c : Nat) : Nat := if s / 2 ^ t % 2 = 1 ∧ q t = c then 1 else 0
/-- how many of the first n types are there at cost c -/
def ov_P (s : Nat) (q : Nat → Nat) : Nat → Nat → Nat
  | 0, _ => 0
  | t + 1, c => ov_P s q t c + ov_i s q t c
def ov_T (s : Nat) (q : Nat → Nat) (c : Nat) : Nat := ov_P s q 3 c
def ov_sum (f : Nat → Nat) : Nat → Nat
  | 0 => 0
  | n + 1 => ov_sum f n + f n
theorem ov_i1 {s : Nat} {q : Nat → Nat} {t c : Nat} (h : s / 2 ^ t % 2 = 1) (h2 : q t = c) : ov_i s q t c = 1 := by
  unfold ov_i
  exact if_pos ⟨h, h2⟩
theorem ov_i0a {s : Nat} {q : Nat → Nat} {t c : Nat} (h : ¬ s / 2 ^ t % 2 = 1) : ov_i s q t c = 0 := by
  unfold ov_i
  exact if_neg (fun z => h z.1)
theorem ov_i0b {s : Nat} {q : Nat → Nat} {t c : Nat} (h : ¬ q t = c) : ov_i s q t c = 0 := by
  unfold ov_i
  exact if_neg (fun z => h z.2)
theorem ov_i_le (s : Nat) (q : Nat → Nat) (t c : Nat) : ov_i s q t c ≤ 1 := by
  unfold ov_i
  split <;> omega
theorem ov_P_le (s : Nat) (q : Nat → Nat) (c : Nat) : ∀ n, ov_P s q n c ≤ n := by
  intro n
  induction n with
  | zero => exact Nat.le_refl 0
  | succ n ih =>
    show ov_P s q n c + ov_i s q n c ≤ n + 1
    have h := ov_i_le s q n c
    omega
theorem ov_T_le (s : Nat) (q : Nat → Nat) (c : Nat) : ov_T s q c ≤ 3 := ov_P_le s q c 3
/-- what the object holds of the node: its types, its sort, the costs -/
def ov_K (s : Nat) (q : Nat → Nat) (a6 a7 a8 : Nat → Int32) : Prop :=
  s < 8 ∧ a7 0 = 0 ∧ a8 0 = nI s ∧ ∀ t, t < 3 → a6 t = nI (q t) ∧ q t < 128
/-- the three tables of node 0 -/
def ov_TB (s : Nat) (q : Nat → Nat) (w : Nat → Int32) : Prop := ∀ t c, t < 3 → c < 128 → w (t * 128 + c) = nI (ov_i s q t c)
theorem ov_sl : ∀ n, n < 32 → ((nI n &&& 31).toBitVec.smod 32).toNat = n := by decide +kernel
theorem ov_bit {s t : Nat} (hs : s < 8) (ht : t < 32) : (nI s >>> (nI t &&& 31)) &&& 1 = nI (s / 2 ^ t % 2) := by
  have h1 := pk_shrN (n := s) (by omega) (nI t &&& 31) t (ov_sl t ht)
  have h2 := pk_andN (n := s / 2 ^ t) (Nat.lt_of_le_of_lt (Nat.div_le_self _ _) (by omega)) (m := 1) 1 (by decide)
  rw [h1]
  exact h2
/-- a place more is zero -/
theorem ov_z {w : Nat → Int32} {i k : Nat} (hk : k = i) (h : ∀ j, j < i → w j = 0) : ∀ j, j < i + 1 → upd w k 0 j = 0 := by
  intro j hj
  rw [hk]
  by_cases e : j = i
  · rw [e, pk_us]
  · rw [pk_un e]
    exact h j (by omega)
theorem ov_0add (i : Nat) : (0 : Int32) + nI i = nI i := by
  show nI 0 + nI i = nI i
  rw [nI_add, Nat.zero_add]
theorem ov_add0 (i : Nat) : nI i + (0 : Int32) = nI i := by
  show nI i + nI 0 = nI i
  rw [nI_add, Nat.add_zero]
theorem ov_sub0 (i : Nat) : nI i - (0 : Int32) = nI i := by
  show nI i - nI 0 = nI i
  rw [pk_sub (Nat.zero_le i), Nat.sub_zero]
theorem ov_ix (t : Nat) : ((3 : Int32) * 0 + nI t) * 128 = nI (t * 128) := by
  have h : (3 : Int32) * 0 = nI 0 := by decide
  rw [h, nI_add, Nat.zero_add]
  exact pk_mul t 128
end
section
section ov_fillS
variable {post : St2 → Prop} {nc ap uv : Int32} {a1 a2 a3 a4 a5 a6 a7 a8 a9 a10 a11 a12 a13 a14 a15 a16 a17 a18 a19 a20 : Nat → Int32} {s : Nat} {q : Nat → Nat}
/-- fill: the places of the types that are there -/
theorem ov_f43 (k : ov_K s q a6 a7 a8) (h14 : ∀ t c, t < 3 → c < 128 → a14 (t * 128 + c) = 0)
    (H : ∀ w, ov_TB s q w → post (nc, ap, uv, a1, a2, a3, a4, a5, a6, a7, a8, a9, a10, a11, a12, a13, w, a15, a16, a17, a18, a19, a20)) : ∃ n, wX_fill_43 post 0 0 nc ap uv n 0 a1 a2 a3 a4 a5 a6 a7 a8 a9 a10 a11 a12 a13 a14 a15 a16 a17 a18 a19 a20 := by
  obtain ⟨hs, h7, h8, h6⟩ := k
  refine pk_loop (fun n i w => wX_fill_43 post 0 0 nc ap uv n (nI i) a1 a2 a3 a4 a5 a6 a7 a8 a9 a10 a11 a12 a13 w a15 a16 a17 a18 a19 a20) (fun i w => ∀ t c, t < 3 → c < 128 → w (t * 128 + c) = if t < i then nI (ov_i s q t c) else 0) 3 0 a14 (by omega) ?_ ?_ ?_
  · intro t c ht hc
    rw [if_neg (by omega)]
    exact h14 t c ht hc
  · intro n w h
    exact pk_le 3 3 (fun _ => H w (fun t c ht hc => by rw [h t c ht hc, if_pos ht])) (fun z => absurd z (by omega))
  · intro n i w hi h hw
    have e : (a8 (0 : Int32).toNatClampNeg >>> (nI i &&& 31)) &&& 1 = nI (s / 2 ^ i % 2) := by
      rw [sb_cl0, h8]
      exact ov_bit hs (by omega)
    have hq := (h6 i hi).2
    have e2 : ((0 : Int32) + nI i * 128) + a6 (nI i).toNatClampNeg = nI (i * 128 + q i) := by
      rw [nI_clamp (by omega), (h6 i hi).1]
      show nI 0 + nI i * nI 128 + nI (q i) = nI (i * 128 + q i)
      rw [pk_mul, nI_add, nI_add, Nat.zero_add]
    refine pk_le 3 i (fun z => absurd z (by omega)) (fun _ => ⟨pk_in 0 12 (by omega), pk_eq (s / 2 ^ i % 2) 1 (fun z => ⟨pk_in i 3 hi, pk_in (i * 128 + q i) 4608 (by omega) e2, nm_e (nm_r (nI_1 i) (hw _ ?_))⟩) (fun z => nm_r (nI_1 i) (hw w ?_)) e⟩)
    · intro t c ht hc
      rw [e2, nI_clamp (by omega)]
      by_cases et : t = i
      · rw [et, if_pos (by omega)]
        by_cases ec : q i = c
        · rw [← ec, pk_us, ov_i1 z rfl]
          rfl
        · rw [pk_un (by omega), ← et, h t c ht hc, et, if_neg (by omega), ov_i0b ec]
          rfl
      · rw [pk_un (by omega), h t c ht hc]
        by_cases el : t < i
        · rw [if_pos el, if_pos (by omega)]
        · rw [if_neg el, if_neg (by omega)]
    · intro t c ht hc
      rw [h t c ht hc]
      by_cases et : t = i
      · rw [et, if_neg (by omega), if_pos (by omega), ov_i0a z]
        rfl
      · by_cases el : t < i
        · rw [if_pos el, if_pos (by omega)]
        · rw [if_neg el, if_neg (by omega)]
theorem ov_f10 (k : ov_K s q a6 a7 a8) (H : ∀ w, ov_TB s q w → post (nc, ap, uv, a1, a2, a3, a4, a5, a6, a7, a8, a9, a10, a11, a12, a13, w, a15, a16, a17, a18, a19, a20)) : ∃ n, wX_fill_10 post 0 0 nc ap uv n 0 a1 a2 a3 a4 a5 a6 a7 a8 a9 a10 a11 a12 a13 a14 a15 a16 a17 a18 a19 a20 := by
  refine pk_loop (fun n i w => wX_fill_10 post 0 0 nc ap uv n (nI i) a1 a2 a3 a4 a5 a6 a7 a8 a9 a10 a11 a12 a13 w a15 a16 a17 a18 a19 a20) (fun i w => ∀ j, j < i → w j = 0) 384 0 a14 (by omega) (fun j hj => absurd hj (by omega)) ?_ ?_
  · intro n w h
    exact pk_le 384 384 (fun _ => ⟨pk_in 0 12 (by omega), br_t (by rw [sb_cl0]; exact k.2.1) (ov_f43 k (fun t c ht hc => h _ (by omega)) H)⟩) (fun z => absurd z (by omega))
  · intro n i w hi h hw
    exact pk_le 384 i (fun z => absurd z (by omega)) (fun _ => ⟨pk_in i 4608 (by omega) (ov_0add i), nm_e (nm_r (nI_1 i) (hw _ (ov_z (by rw [ov_0add, nI_clamp (by omega)]) h)))⟩)
theorem ov_fill (k : ov_K s q a6 a7 a8) (H : ∀ w, ov_TB s q w → post (nc, ap, uv, a1, a2, a3, a4, a5, a6, a7, a8, a9, a10, a11, a12, a13, w, a15, a16, a17, a18, a19, a20)) : wpX_fill post (nc, ap, uv, a1, a2, a3, a4, a5, a6, a7, a8, a9, a10, a11, a12, a13, a14, a15, a16, a17, a18, a19, a20) 0 :=
  nm_r (e' := 0) (by decide) (ov_f10 k H)
theorem ov_fa (p : Int32) (h12 : a12 0 = 1) (k : ov_K s q a6 a7 a8) (H : ∀ v w, ov_TB s q w → post (nc, ap, uv, a1, a2, a3, a4, a5, a6, a7, a8, a9, a10, a11, a12, v, w, a15, a16, a17, a18, a19, a20)) : wpX_fillAll post (nc, ap, uv, a1, a2, a3, a4, a5, a6, a7, a8, a9, a10, a11, a12, a13, a14, a15, a16, a17, a18, a19, a20) 0 p :=
  ⟨by decide, nm_e ⟨by decide, nm_e ⟨2, br_f (by decide) ⟨pk_in 0 12 (by omega), br_f (by rw [sb_cl0, h12]; decide) (ov_fill k (fun w hw => nm_r (e' := 1) (by decide) (br_t (by decide) (H _ w hw))))⟩⟩⟩⟩
end ov_fillS
section ov_sumS
variable {post : St2 → Prop} {nc ap uv : Int32} {a1 a2 a3 a4 a5 a6 a7 a8 a9 a10 a11 a12 a13 a14 a15 a16 a17 a18 a19 a20 : Nat → Int32} {s : Nat} {q : Nat → Nat}
/-- addTable: what the table holds is added -/
theorem ov_at28 {t : Nat} {f g : Nat → Nat} (ht : t < 3) (hT : ∀ c, c < 128 → a14 (t * 128 + c) = nI (g c)) (h15 : ∀ c, c < 128 → a15 c = nI (f c))
    (H : ∀ w, (∀ c, c < 128 → w c = nI (f c + g c)) → post (nc, ap, uv, a1, a2, a3, a4, a5, a6, a7, a8, a9, a10, a11, a12, a13, a14, w, a16, a17, a18, a19, a20)) : ∃ n, wX_addTable_28 post 0 (nI (t * 128)) nc ap uv n 0 a1 a2 a3 a4 a5 a6 a7 a8 a9 a10 a11 a12 a13 a14 a15 a16 a17 a18 a19 a20 := by
  refine pk_loop (fun n i w => wX_addTable_28 post 0 (nI (t * 128)) nc ap uv n (nI i) a1 a2 a3 a4 a5 a6 a7 a8 a9 a10 a11 a12 a13 a14 w a16 a17 a18 a19 a20) (fun i w => ∀ c, c < 128 → w c = if c < i then nI (f c + g c) else nI (f c)) 128 0 a15 (by omega) ?_ ?_ ?_
  · intro c hc
    rw [if_neg (by omega)]
    exact h15 c hc
  · intro n w h
    exact pk_le 128 128 (fun _ => H w (fun c hc => by rw [h c hc, if_pos hc])) (fun z => absurd z (by omega)) rfl (ov_add0 128)
  · intro n i w hi h hw
    refine pk_le 128 i (fun z => absurd z (by omega)) (fun _ => ⟨pk_in i 128 hi (ov_add0 i), pk_in (t * 128 + i) 4608 (by omega) (nI_add _ _), pk_in i 128 hi (ov_add0 i), nm_e (nm_r (nI_1 i) (hw _ ?_))⟩) rfl (ov_add0 i)
    intro c hc
    rw [ov_add0, nI_add, nI_clamp (by omega), nI_clamp (by omega), hT i hi, h i hi, if_neg (by omega), nI_add]
    by_cases e : c = i
    · rw [e, pk_us, if_pos (by omega)]
    · rw [pk_un e, h c hc]
      by_cases el : c < i
      · rw [if_pos el, if_pos (by omega)]
      · rw [if_neg el, if_neg (by omega)]
theorem ov_at {t : Nat} {f g : Nat → Nat} (ht : t < 3) (hT : ∀ c, c < 128 → a14 (t * 128 + c) = nI (g c)) (h15 : ∀ c, c < 128 → a15 c = nI (f c))
    (H : ∀ w, (∀ c, c < 128 → w c = nI (f c + g c)) → post (nc, ap, uv, a1, a2, a3, a4, a5, a6, a7, a8, a9, a10, a11, a12, a13, a14, w, a16, a17, a18, a19, a20)) : wpX_addTable post (nc, ap, uv, a1, a2, a3, a4, a5, a6, a7, a8, a9, a10, a11, a12, a13, a14, a15, a16, a17, a18, a19, a20) 0 (nI t) 3 :=
  br_t rfl (br_t (by decide) (nm_r (ov_ix t) (ov_at28 ht hT h15 H)))
theorem ov_su66 {J : Int32 → Int32 → Int32 → Int32 → (Nat → Int32) → (Nat → Int32) → (Nat → Int32) → (Nat → Int32) → (Nat → Int32) → (Nat → Int32) → (Nat → Int32) → (Nat → Int32) → (Nat → Int32) → (Nat → Int32) → (Nat → Int32) → (Nat → Int32) → (Nat → Int32) → (Nat → Int32) → (Nat → Int32) → (Nat → Int32) → (Nat → Int32) → (Nat → Int32) → (Nat → Int32) → (Nat → Int32) → Prop} {x3 : Int32} (hT : ov_TB s q a14) (h15 : ∀ c, c < 128 → a15 c = 0)
    (H : ∀ w, (∀ c, c < 128 → w c = nI (ov_T s q c)) → J (x3 + 1) nc ap uv a1 a2 a3 a4 a5 a6 a7 a8 a9 a10 a11 a12 a13 a14 w a16 a17 a18 a19 a20) : ∃ n, wX_sumUp_66 post J 0 3 x3 n 0 nc ap uv a1 a2 a3 a4 a5 a6 a7 a8 a9 a10 a11 a12 a13 a14 a15 a16 a17 a18 a19 a20 := by
  refine pk_loop (fun n i w => wX_sumUp_66 post J 0 3 x3 n (nI i) nc ap uv a1 a2 a3 a4 a5 a6 a7 a8 a9 a10 a11 a12 a13 a14 w a16 a17 a18 a19 a20) (fun i w => ∀ c, c < 128 → w c = nI (ov_P s q i c)) 3 0 a15 (by omega) h15 ?_ ?_
  · intro n w h
    exact pk_le 3 3 (fun _ => nm_e (H w h)) (fun z => absurd z (by omega))
  · intro n i w hi h hw
    exact pk_le 3 i (fun z => absurd z (by omega)) (fun _ => ov_at hi (fun c hc => hT i c hi hc) h (fun w' h' => nm_r (nI_1 i) (hw w' h')))
theorem ov_mh {P : Int32 → Prop} (v p : Int32) (hv : ((0 : Int32) >>> (v &&& 31)) &&& 1 = 0) (h1 : p = 0 → P 1) (h0 : ¬ p = 0 → P 0) : wpX_mayHave P (nc, ap, 0, a1, a2, a3, a4, a5, a6, a7, a8, a9, a10, a11, a12, a13, a14, a15, a16, a17, a18, a19, a20) v p :=
  br_t hv (br_c h1 h0)
/-- sumUp: the pairs behind the first have no turn -/
theorem ov_su29t (H : post (nc, ap, 0, a1, a2, a3, a4, a5, a6, a7, a8, a9, a10, a11, a12, a13, a14, a15, a16, a17, a18, a19, a20)) : ∀ k i, 1 ≤ i → i + k = 9 → wX_sumUp_29 post 0 3 (k + 1) (nI i) nc ap 0 a1 a2 a3 a4 a5 a6 a7 a8 a9 a10 a11 a12 a13 a14 a15 a16 a17 a18 a19 a20 := by
  intro k
  induction k with
  | zero => exact fun i h1 h2 => pk_le 9 i (fun _ => H) (fun z => absurd z (by omega))
  | succ k ih =>
    intro i h1 h2
    have g := ih (i + 1) (by omega) (by omega)
    refine pk_le 9 i (fun z => absurd z (by omega)) (fun _ => ⟨by decide, ov_mh 0 _ (by decide) (fun e => br_f (by decide) ⟨by decide, ov_mh 1 _ (by decide) (fun e2 => ?_) (fun _ => br_t rfl (nm_r (nI_1 i) g))⟩) (fun _ => br_t rfl (nm_r (nI_1 i) g))⟩)
    have d1 : nI i / 3 = nI (i / 3) := pk_div (a := i) (d := 3) (by omega) (by omega) (by omega)
    have d2 : nI i - nI i / 3 * 3 = nI (i % 3) := pk_rem (a := i) (d := 3) (by omega) (by omega) (by omega)
    rw [d1] at e
    rw [d2] at e2
    have e' := (nI_eq (a := i / 3) (b := 0) (by omega) (by omega)).mp e
    have e2' := (nI_eq (a := i % 3) (b := 0) (by omega) (by omega)).mp e2
    omega
theorem ov_su29 (k : ov_K s q a6 a7 a8) (h12 : a12 0 = 1) (h15 : ∀ c, c < 128 → a15 c = 0)
    (H : ∀ v w u, ov_TB s q w → (∀ c, c < 128 → u c = nI (ov_T s q c)) → post (nc, ap, 0, a1, a2, a3, a4, a5, a6, a7, a8, a9, a10, a11, a12, v, w, u, a16, a17, a18, a19, a20)) : ∃ n, wX_sumUp_29 post 0 3 n 0 nc ap 0 a1 a2 a3 a4 a5 a6 a7 a8 a9 a10 a11 a12 a13 a14 a15 a16 a17 a18 a19 a20 :=
  ⟨10, br_f (by decide) ⟨by decide, ov_mh 0 _ (by decide) (fun _ => br_f (by decide) ⟨by decide, ov_mh 1 _ (by decide) (fun _ => br_f (by decide) (ov_fa _ h12 k (fun v w hw => ov_su66 hw h15 (fun u hu => ov_su29t (H v w u hw hu) 8 1 (by omega) (by omega))))) (fun z => absurd (by decide) z)⟩) (fun z => absurd (by decide) z)⟩⟩
theorem ov_su7 (k : ov_K s q a6 a7 a8) (h12 : a12 0 = 1)
    (H : ∀ v w u, ov_TB s q w → (∀ c, c < 128 → u c = nI (ov_T s q c)) → post (nc, ap, 0, a1, a2, a3, a4, a5, a6, a7, a8, a9, a10, a11, a12, v, w, u, a16, a17, a18, a19, a20)) : ∃ n, wX_sumUp_7 post 0 3 nc ap 0 n 0 a1 a2 a3 a4 a5 a6 a7 a8 a9 a10 a11 a12 a13 a14 a15 a16 a17 a18 a19 a20 := by
  refine pk_loop (fun n i w => wX_sumUp_7 post 0 3 nc ap 0 n (nI i) a1 a2 a3 a4 a5 a6 a7 a8 a9 a10 a11 a12 a13 a14 w a16 a17 a18 a19 a20) (fun i w => ∀ j, j < i → w j = 0) 128 0 a15 (by omega) (fun j hj => absurd hj (by omega)) ?_ ?_
  · intro n w h
    exact pk_le 128 128 (fun _ => ov_su29 k h12 h H) (fun z => absurd z (by omega))
  · intro n i w hi h hw
    exact pk_le 128 i (fun z => absurd z (by omega)) (fun _ => ⟨pk_in i 128 hi, nm_e (nm_r (nI_1 i) (hw _ (ov_z (nI_clamp (by omega)) h)))⟩)
/-- markParts: node 0 is its only part, and no variable is used -/
theorem ov_mp37 (h12 : a12 0 = 1) (h7 : a7 0 = 0) (H : post (nc, ap, 0, a1, a2, a3, a4, a5, a6, a7, a8, a9, a10, a11, a12, a13, a14, a15, a16, a17, a18, a19, a20)) : ∃ n, wX_markParts_37 post nc ap n 0 0 a1 a2 a3 a4 a5 a6 a7 a8 a9 a10 a11 a12 a13 a14 a15 a16 a17 a18 a19 a20 :=
  ⟨2, br_f (by decide) ⟨pk_in 0 12 (by omega), br_f (by rw [sb_cl0, h12]; decide) ⟨pk_in 0 12 (by omega), br_f (by rw [sb_cl0, h7]; decide)
    ⟨pk_in 0 12 (by omega), br_f (by rw [sb_cl0, h12]; decide) ⟨pk_in 0 12 (by omega), br_f (by rw [sb_cl0, h7]; decide) (nm_r (e' := -1) (by decide) (br_t (by decide) H))⟩⟩⟩⟩⟩
theorem ov_mp (h7 : a7 0 = 0) (H : ∀ w, w 0 = 1 → post (nc, ap, 0, a1, a2, a3, a4, a5, a6, a7, a8, a9, a10, a11, w, a13, a14, a15, a16, a17, a18, a19, a20)) : wpX_markParts post (nc, ap, uv, a1, a2, a3, a4, a5, a6, a7, a8, a9, a10, a11, a12, a13, a14, a15, a16, a17, a18, a19, a20) 0 := by
  refine pk_loop (fun n i w => wX_markParts_2 post 0 nc ap uv n (nI i) a1 a2 a3 a4 a5 a6 a7 a8 a9 a10 a11 w a13 a14 a15 a16 a17 a18 a19 a20) (fun i w => 0 < i → w 0 = 1) 12 0 a12 (by omega) (fun z => absurd z (by omega)) ?_ ?_
  · intro n w h
    exact pk_le 12 12 (fun _ => ov_mp37 (h (by omega)) h7 (H w (h (by omega)))) (fun z => absurd z (by omega))
  · intro n i w hi h hw
    refine pk_le 12 i (fun z => absurd z (by omega)) (fun _ => pk_eq i 0 (fun z => ⟨pk_in i 12 hi, nm_e (nm_r (nI_1 i) (hw _ (fun _ => ?_)))⟩) (fun z => ⟨pk_in i 12 hi, nm_e (nm_r (nI_1 i) (hw _ (fun _ => ?_)))⟩))
    · rw [nI_clamp (by omega), z, pk_us]
    · rw [nI_clamp (by omega), pk_un (by omega)]
      exact h (by omega)
theorem ov_su (k : ov_K s q a6 a7 a8)
    (H : ∀ x v w u, x 0 = 1 → ov_TB s q w → (∀ c, c < 128 → u c = nI (ov_T s q c)) → post (nc, ap, 0, a1, a2, a3, a4, a5, a6, a7, a8, a9, a10, a11, x, v, w, u, a16, a17, a18, a19, a20)) : wpX_sumUp post (nc, ap, uv, a1, a2, a3, a4, a5, a6, a7, a8, a9, a10, a11, a12, a13, a14, a15, a16, a17, a18, a19, a20) 0 3 :=
  ov_mp k.2.1 (fun x hx => ov_su7 k hx (fun v w u h1 h2 => H x v w u hx h1 h2))
end ov_sumS
end
section
section ov_queryS
variable {nc ap uv : Int32} {a1 a2 a3 a4 a5 a6 a7 a8 a9 a10 a11 a12 a13 a14 a15 a16 a17 a18 a19 a20 : Nat → Int32} {s : Nat} {q : Nat → Nat} {m : Nat}
theorem ov_rf {P : Int32 → Prop} (h : P 0) : wpX_refused P (1, ap, uv, a1, a2, a3, a4, a5, a6, a7, a8, a9, a10, a11, a12, a13, a14, a15, a16, a17, a18, a19, a20) 0 3 :=
  br_f (by decide) (br_f (by decide) (br_f (by decide) (br_f (by decide) (br_t (by decide) h))))
theorem ov_rf0 {P : Int32 → Prop} (h : P (-1)) : wpX_refused P (0, ap, uv, a1, a2, a3, a4, a5, a6, a7, a8, a9, a10, a11, a12, a13, a14, a15, a16, a17, a18, a19, a20) 0 3 :=
  br_f (by decide) (br_t (by decide) (br_t rfl h))
variable {post : Int32 → St2 → Prop}
theorem ov_so25 {f : Nat → Nat} (h15 : ∀ c, c < 128 → a15 c = nI (f c)) (H : post (nI (ov_sum f 128)) (nc, ap, uv, a1, a2, a3, a4, a5, a6, a7, a8, a9, a10, a11, a12, a13, a14, a15, a16, a17, a18, a19, a20)) : ∃ n, wX_solutions_25 post nc ap uv a1 a2 a3 a4 a5 a6 a7 a8 a9 a10 a11 a12 a13 a14 a15 a16 a17 a18 a19 a20 n 0 0 :=
  pk_loop (σ := Unit) (fun n i _ => wX_solutions_25 post nc ap uv a1 a2 a3 a4 a5 a6 a7 a8 a9 a10 a11 a12 a13 a14 a15 a16 a17 a18 a19 a20 n (nI (ov_sum f i)) (nI i)) (fun _ _ => True) 128 0 () (by omega) trivial
    (fun n _ _ => pk_le 128 128 (fun _ => H) (fun z => absurd z (by omega)))
    (fun n i _ hi _ hw => pk_le 128 i (fun z => absurd z (by omega)) (fun _ => ⟨pk_in i 128 hi, nm_r (e' := nI (ov_sum f (i + 1))) (by rw [nI_clamp (by omega), h15 i hi, nI_add]; rfl) (nm_r (nI_1 i) (hw () trivial))⟩))
theorem ov_so (k : ov_K s q a6 a7 a8) (H : ∀ x v w u, post (nI (ov_sum (ov_T s q) 128)) (1, ap, 0, a1, a2, a3, a4, a5, a6, a7, a8, a9, a10, a11, x, v, w, u, a16, a17, a18, a19, a20)) : wpX_solutions post (1, ap, uv, a1, a2, a3, a4, a5, a6, a7, a8, a9, a10, a11, a12, a13, a14, a15, a16, a17, a18, a19, a20) 0 3 := by
  unfold wpX_solutions
  exact ov_rf (br_t (by decide) (ov_su k (fun x v w u _ _ h3 => ov_so25 h3 (H x v w u))))
theorem ov_lo {P : Int32 → Prop} {f : Nat → Nat} (hm : m < 128) (h15 : ∀ c, c < 128 → a15 c = nI (f c)) (hf : ∀ c, f c ≤ 3) (h0 : 0 < f m) (hl : ∀ j, j < m → f j = 0) (H : P (nI m)) : wpX_leastOf P (nc, ap, uv, a1, a2, a3, a4, a5, a6, a7, a8, a9, a10, a11, a12, a13, a14, a15, a16, a17, a18, a19, a20) :=
  pk_loop (σ := Unit) (fun n i _ => wX_leastOf_2 P nc ap uv a1 a2 a3 a4 a5 a6 a7 a8 a9 a10 a11 a12 a13 a14 a15 a16 a17 a18 a19 a20 n (nI i)) (fun _ _ => True) m 0 () (by omega) trivial
    (fun n _ _ => pk_le 128 m (fun z => absurd z (by omega)) (fun _ => ⟨pk_in m 128 hm, pk_le (f m) 0 (fun z => absurd z (by omega)) (fun _ => H) (by rw [nI_clamp (by omega), h15 m hm]) rfl (Nat.lt_of_le_of_lt (hf m) (by omega))⟩))
    (fun n i _ hi _ hw => pk_le 128 i (fun z => absurd z (by omega)) (fun _ => ⟨pk_in i 128 (by omega), br_t (by rw [nI_clamp (by omega), h15 i (by omega), hl i hi]; decide) (nm_r (nI_1 i) (hw () trivial))⟩))
theorem ov_lc (k : ov_K s q a6 a7 a8) (hm : m < 128) (h0 : 0 < ov_T s q m) (hl : ∀ j, j < m → ov_T s q j = 0) (H : ∀ x v w u, post (nI m) (1, ap, 0, a1, a2, a3, a4, a5, a6, a7, a8, a9, a10, a11, x, v, w, u, a16, a17, a18, a19, a20)) : wpX_leastCost post (1, ap, uv, a1, a2, a3, a4, a5, a6, a7, a8, a9, a10, a11, a12, a13, a14, a15, a16, a17, a18, a19, a20) 0 3 := by
  unfold wpX_leastCost
  exact ov_rf (br_t (by decide) (ov_su k (fun x v w u _ _ h3 => ov_lo hm h3 (ov_T_le s q) h0 hl (pk_le 128 m (fun z => absurd z (by omega)) (fun _ => H x v w u)))))
theorem ov_bc (k : ov_K s q a6 a7 a8) (hm : m < 128) (h0 : 0 < ov_T s q m) (hl : ∀ j, j < m → ov_T s q j = 0) (H : ∀ x v w u, post (nI (ov_T s q m)) (1, ap, 0, a1, a2, a3, a4, a5, a6, a7, a8, a9, a10, a11, x, v, w, u, a16, a17, a18, a19, a20)) : wpX_bestCount post (1, ap, uv, a1, a2, a3, a4, a5, a6, a7, a8, a9, a10, a11, a12, a13, a14, a15, a16, a17, a18, a19, a20) 0 3 := by
  unfold wpX_bestCount
  exact ov_rf (br_t (by decide) (ov_su k (fun x v w u _ _ h3 => ov_lo hm h3 (ov_T_le s q) h0 hl (pk_le 128 m (fun z => absurd z (by omega)) (fun _ => ⟨pk_in m 128 hm, by rw [nI_clamp (by omega), h3 m hm]; exact H x v w u⟩)))))
/-- withCost's answer -/
def ov_w (f : Nat → Nat) (x : Int32) : Int32 := if x < 0 then 0 else if x < 128 then nI (f x.toNatClampNeg) else 0
theorem ov_big {x : Int32} (h : nI 128 ≤ x) : ¬ x < 0 ∧ ¬ x < 128 := by
  have h' := Int32.le_iff_toInt_le.mp h
  rw [nI_toInt (by omega)] at h'
  have e : (128 : Int32).toInt = 128 := by decide
  constructor
  · intro z
    have z' := Int32.lt_iff_toInt_lt.mp z
    rw [Int32.toInt_zero] at z'
    omega
  · intro z
    have z' := Int32.lt_iff_toInt_lt.mp z
    rw [e] at z'
    omega
theorem ov_wneg {f : Nat → Nat} {x : Int32} (h : x < 0) : ov_w f x = 0 := by
  unfold ov_w
  exact if_pos h
theorem ov_wbig {f : Nat → Nat} {x : Int32} (h : nI 128 ≤ x) : ov_w f x = 0 := by
  unfold ov_w
  rw [if_neg (ov_big h).1, if_neg (ov_big h).2]
theorem ov_win {f : Nat → Nat} {j : Nat} (h : j < 128) : ov_w f (nI j) = nI (f j) := by
  unfold ov_w
  rw [if_neg (nI_pos (by omega)), if_pos (show nI j < 128 from nI_lt (a := j) (b := 128) h (by omega)), nI_clamp (by omega)]
theorem ov_wc (k : ov_K s q a6 a7 a8) (x : Int32) (H : ∀ r x' v w u, post (ov_w (ov_T s q) x) (1, ap, r, a1, a2, a3, a4, a5, a6, a7, a8, a9, a10, a11, x', v, w, u, a16, a17, a18, a19, a20)) : wpX_withCost post (1, ap, uv, a1, a2, a3, a4, a5, a6, a7, a8, a9, a10, a11, a12, a13, a14, a15, a16, a17, a18, a19, a20) 0 3 x := by
  unfold wpX_withCost
  rcases pk_ix x (n := 128) (by omega) with h | h | ⟨j, hj, e⟩
  · rw [ov_wneg h] at H
    exact ov_rf (br_t (by decide) (br_t h (H uv a12 a13 a14 a15)))
  · rw [ov_wbig h] at H
    exact ov_rf (br_t (by decide) (br_f (ov_big h).1 (br_f (ov_big h).2 (H uv a12 a13 a14 a15))))
  · subst e
    rw [ov_win hj] at H
    exact ov_rf (br_t (by decide) (br_f (nI_pos (by omega)) (br_t (nI_lt (a := j) (b := 128) hj (by omega)) (ov_su k (fun x' v w u _ _ h3 => ⟨pk_in j 128 hj, by rw [nI_clamp (by omega), h3 j hj]; exact H _ x' v w u⟩)))))
/-- settle: node 0 is no application -/
theorem ov_s93 (h12 : a12 0 = 1) (h7 : a7 0 = 0) (H : post 1 (nc, ap, uv, a1, a2, a3, a4, a5, a6, a7, a8, a9, a10, a11, a12, a13, a14, a15, a16, a17, a18, a19, a20)) : ∃ n, wX_settle_93 post n 0 nc ap uv a1 a2 a3 a4 a5 a6 a7 a8 a9 a10 a11 a12 a13 a14 a15 a16 a17 a18 a19 a20 :=
  ⟨2, br_f (by decide) ⟨pk_in 0 12 (by omega), br_f (by rw [sb_cl0, h12]; decide) ⟨pk_in 0 12 (by omega), br_f (by rw [sb_cl0, h7]; decide) (nm_r (e' := -1) (by decide) (br_t (by decide) H))⟩⟩⟩
theorem ov_st {t0 : Nat} (hT : ov_TB s q a14) (hm : m < 128) (ht0 : t0 < 3) (h1 : ov_i s q t0 m = 1) (hl : ∀ t, t < t0 → ov_i s q t m = 0)
    (H : ∀ y z, z 0 = nI t0 → post 1 (nc, ap, uv, a1, a2, a3, a4, a5, a6, a7, a8, a9, a10, a11, a12, a13, a14, a15, a16, a17, y, z, a20)) : wpX_startAt post (nc, ap, uv, a1, a2, a3, a4, a5, a6, a7, a8, a9, a10, a11, a12, a13, a14, a15, a16, a17, a18, a19, a20) 0 3 (nI m) := by
  have ix : ∀ t, t < 3 → (((3 : Int32) * 0 + nI t) * 128) + nI m = nI (t * 128 + m) := fun t _ => by rw [ov_ix, nI_add]
  have vx : ∀ t, t < 3 → a14 ((((3 : Int32) * 0 + nI t) * 128) + nI m).toNatClampNeg = nI (ov_i s q t m) := fun t ht => by rw [ix t ht, nI_clamp (by omega), hT t m ht hm]
  exact pk_loop (σ := Unit) (fun n i _ => wX_startAt_3 post 0 3 (nI m) nc ap uv a1 a2 a3 a4 a5 a6 a7 a8 a9 a10 a11 a12 a13 a14 a15 a16 a17 a18 a19 a20 n (nI i)) (fun _ _ => True) t0 0 () (by omega) trivial
    (fun n _ _ => pk_le 3 t0 (fun z => absurd z (by omega)) (fun _ => br_t rfl (nm_r (ov_sub0 m) (br_f (by decide) (br_f (nI_pos (by omega)) ⟨pk_in (t0 * 128 + m) 4608 (by omega) (ix t0 ht0), br_f (by rw [vx t0 ht0, h1]; decide) ⟨pk_in 0 12 (by omega), nm_e ⟨pk_in 0 12 (by omega), nm_e (H _ _ (by rw [sb_cl0, pk_us]))⟩⟩⟩)))))
    (fun n i _ hi _ hw => pk_le 3 i (fun z => absurd z (by omega)) (fun _ => br_t rfl (nm_r (ov_sub0 m) (br_f (by decide) (br_f (nI_pos (by omega)) ⟨pk_in (i * 128 + m) 4608 (by omega) (ix i (by omega)), br_t (by rw [vx i (by omega), hl i hi]; decide) (nm_r (nI_1 i) (hw () trivial))⟩)))))
theorem ov_s33 {t0 : Nat} (k : ov_K s q a6 a7 a8) (h12 : a12 0 = 1) (hm : m < 128) (ht0 : t0 < 3) (h1 : ov_i s q t0 m = 1) (hl : ∀ t, t < t0 → ov_i s q t m = 0)
    (H : ∀ v w y z, z 0 = nI t0 → post 1 (nc, ap, 0, a1, a2, a3, a4, a5, a6, a7, a8, a9, a10, a11, a12, v, w, a15, a16, a17, y, z, a20)) : ∃ n, wX_settle_33 post 0 3 (nI m) n 0 nc ap 0 a1 a2 a3 a4 a5 a6 a7 a8 a9 a10 a11 a12 a13 a14 a15 a16 a17 a18 a19 a20 :=
  ⟨1, br_f (by decide) ⟨by decide, ov_mh 0 _ (by decide) (fun _ => br_f (by decide) ⟨by decide, ov_mh 1 _ (by decide) (fun _ => br_f (by decide) (ov_fa _ h12 k (fun v w hw => ov_st hw hm ht0 h1 hl (fun y z hz => br_f (by decide) (ov_s93 h12 k.2.1 (H v w y z hz)))))) (fun z => absurd (by decide) z)⟩) (fun z => absurd (by decide) z)⟩⟩
/-- the type of the only best: r, or -4 -/
def ov_R (s : Nat) (q : Nat → Nat) (m : Nat) (r : Int32) : Prop :=
  (¬ ov_T s q m = 1 ∧ r = -4) ∨ (ov_T s q m = 1 ∧ ∃ t0, t0 < 3 ∧ ov_i s q t0 m = 1 ∧ (∀ t, t < t0 → ov_i s q t m = 0) ∧ r = nI t0)
theorem ov_se {r : Int32} (k : ov_K s q a6 a7 a8) (hm : m < 128) (h0 : 0 < ov_T s q m) (hl : ∀ j, j < m → ov_T s q j = 0) (hr : ov_R s q m r)
    (H0 : r = -4 → ∀ x v w u, post 0 (nc, ap, 0, a1, a2, a3, a4, a5, a6, a7, a8, a9, a10, a11, x, v, w, u, a16, a17, a18, a19, a20))
    (H1 : ∀ x v w u y z, z 0 = r → post 1 (nc, ap, 0, a1, a2, a3, a4, a5, a6, a7, a8, a9, a10, a11, x, v, w, u, a16, a17, y, z, a20)) : wpX_settle post (nc, ap, uv, a1, a2, a3, a4, a5, a6, a7, a8, a9, a10, a11, a12, a13, a14, a15, a16, a17, a18, a19, a20) 0 3 := by
  refine ov_su k (fun x v w u hx hw h3 => ov_lo hm h3 (ov_T_le s q) h0 hl (pk_eq m 128 (fun z => absurd z (by omega)) (fun _ => ⟨pk_in m 128 hm, pk_eq (ov_T s q m) 1 (fun g => ?_) (fun g => ?_) (by rw [nI_clamp (by omega), h3 m hm]) rfl (Nat.lt_of_le_of_lt (ov_T_le s q m) (by omega))⟩)))
  · rcases hr with ⟨g1, _⟩ | ⟨_, t0, ht0, i1, il, e⟩
    · exact absurd g g1
    · subst e
      exact ov_s33 k hx hm ht0 i1 il (fun v' w' y z hz => H1 x v' w' u y z hz)
  · rcases hr with ⟨_, e⟩ | ⟨g1, _⟩
    · exact H0 e x v w u
    · exact absurd g1 g
theorem ov_ty {r : Int32} (k : ov_K s q a6 a7 a8) (hm : m < 128) (h0 : 0 < ov_T s q m) (hl : ∀ j, j < m → ov_T s q j = 0) (hr : ov_R s q m r)
    (H : ∀ x v w u y z, post r (1, ap, 0, a1, a2, a3, a4, a5, a6, a7, a8, a9, a10, a11, x, v, w, u, a16, a17, y, z, a20)) : wpX_typeOf post (1, ap, uv, a1, a2, a3, a4, a5, a6, a7, a8, a9, a10, a11, a12, a13, a14, a15, a16, a17, a18, a19, a20) 0 3 := by
  unfold wpX_typeOf
  exact ov_rf (br_t (by decide) (ov_se k hm h0 hl hr (fun e x v w u => br_t rfl (e ▸ H x v w u a18 a19)) (fun x v w u y z hz => br_f (by decide) ⟨pk_in 0 12 (by omega), by rw [sb_cl0, hz]; exact H x v w u y z⟩)))
theorem ov_cn {r : Int32} (k : ov_K s q a6 a7 a8) (hm : m < 128) (h0 : 0 < ov_T s q m) (hl : ∀ j, j < m → ov_T s q j = 0) (hr : ov_R s q m r)
    (H : ∀ x v w u y z, post r (1, ap, 0, a1, a2, a3, a4, a5, a6, a7, a8, a9, a10, a11, x, v, w, u, a16, a17, y, z, a20)) : wpX_chosen post (1, ap, uv, a1, a2, a3, a4, a5, a6, a7, a8, a9, a10, a11, a12, a13, a14, a15, a16, a17, a18, a19, a20) 0 3 0 := by
  unfold wpX_chosen
  exact ov_rf (br_t (by decide) (ov_mp k.2.1 (fun x' hx' => br_f (by decide) (br_f (by decide) (br_f (by decide) ⟨pk_in 0 12 (by omega), br_f (by rw [sb_cl0, hx']; decide)
    (ov_se k hm h0 hl hr (fun e x v w u => br_t rfl (e ▸ H x v w u a18 a19)) (fun x v w u y z hz => br_f (by decide) ⟨pk_in 0 12 (by omega), br_f (by rw [sb_cl0, k.2.1]; decide) ⟨pk_in 0 12 (by omega), by rw [sb_cl0, hz]; exact H x v w u y z⟩⟩))⟩)))))
end ov_queryS
end
section
/-! the node's types s, the cost co of type ty: what the law expects, in plain numbers -/
def ov_q (ty co : Nat) : Nat → Nat := fun t => if t = ty then co else 0
def ov_D (s ty co : Nat) : Bool := decide (0 < co) && decide (s / 2 ^ ty % 2 = 1)
def ov_n (s : Nat) : Nat := s % 2 + s / 2 % 2 + s / 4 % 2
def ov_m (s ty co : Nat) : Nat := if ov_D s ty co = true ∧ ov_n s = 1 then co else 0
def ov_best (s ty co : Nat) : Nat := if ov_D s ty co = true ∧ 1 < ov_n s then ov_n s - 1 else ov_n s
def ov_ch (s ty co : Nat) : Nat := if ov_D s ty co = true ∧ 1 < ov_n s then s - 2 ^ ty else s
def ov_t (s ty co : Nat) : Nat := if ov_ch s ty co = 1 then 0 else if ov_ch s ty co = 2 then 1 else 2
def ov_only (s ty co : Nat) : Int32 := if ov_best s ty co = 1 then nI (ov_t s ty co) else -4
def ov_free (s ty co : Nat) : Nat := if ov_D s ty co = true then ov_n s - 1 else ov_n s
theorem ov_d0 : ∀ s, s < 8 → ∀ ty, ty < 3 → ∀ co, co < 10 → 1 ≤ s → ov_T s (ov_q ty co) (ov_m s ty co) = ov_best s ty co ∧ 0 < ov_best s ty co := by decide +kernel
theorem ov_d2 : ∀ s, s < 8 → ∀ ty, ty < 3 → ∀ co, co < 10 → 1 ≤ s → ∀ j, j < ov_m s ty co → ov_T s (ov_q ty co) j = 0 := by decide +kernel
theorem ov_d3 : ∀ s, s < 8 → ∀ ty, ty < 3 → ∀ co, co < 10 → 1 ≤ s → ov_sum (ov_T s (ov_q ty co)) 10 = ov_n s := by decide +kernel
theorem ov_d4 : ∀ s, s < 8 → ∀ ty, ty < 3 → ∀ co, co < 10 → 1 ≤ s → ov_best s ty co = 1 → ov_i s (ov_q ty co) (ov_t s ty co) (ov_m s ty co) = 1 := by decide +kernel
def ov_g (s ty co t : Nat) : Bool := decide (1 ≤ s ∧ ov_best s ty co = 1 → ov_i s (ov_q ty co) t (ov_m s ty co) = 0)
theorem ov_d4g : ∀ s, s < 8 → ∀ ty, ty < 3 → ∀ co, co < 10 → ∀ t, t < ov_t s ty co → ov_g s ty co t = true := by decide +kernel
theorem ov_d5 : ∀ s, s < 8 → ∀ ty, ty < 3 → ∀ co, co < 10 → 1 ≤ s → ∀ c, c < 10 → ov_T s (ov_q ty co) c = if c = 0 then ov_free s ty co else if ov_D s ty co = true ∧ c = co then 1 else 0 := by decide +kernel
theorem ov_c1 : ∀ s, s < 8 → ((nI s &&& 1) + ((nI s >>> ((1 : Int32) &&& 31)) &&& 1)) + ((nI s >>> ((2 : Int32) &&& 31)) &&& 1) = nI (ov_n s) := by decide +kernel
theorem ov_c2 : ∀ s, s < 8 → ∀ ty, ty < 3 → s / 2 ^ ty % 2 = 1 → nI s &&& (((1 : Int32) <<< (nI ty &&& 31)) ^^^ (-1)) = nI (s - 2 ^ ty) := by decide +kernel
theorem ov_m_lt {s ty co : Nat} (h : co < 10) : ov_m s ty co < 10 := by
  unfold ov_m
  split <;> omega
theorem ov_q_lt {ty co : Nat} (h : co < 10) (t : Nat) : ov_q ty co t < 10 := by
  unfold ov_q
  split <;> omega
theorem ov_Tbig {s ty co c : Nat} (h : co < 10) (hc : 10 ≤ c) : ov_T s (ov_q ty co) c = 0 := by
  have z : ∀ t, ov_i s (ov_q ty co) t c = 0 := fun t => ov_i0b (by have := ov_q_lt (ty := ty) h t; omega)
  show 0 + ov_i s (ov_q ty co) 0 c + ov_i s (ov_q ty co) 1 c + ov_i s (ov_q ty co) 2 c = 0
  rw [z, z, z]
theorem ov_sumz {f : Nat → Nat} {a : Nat} (h : ∀ c, a ≤ c → f c = 0) : ∀ k, ov_sum f (a + k) = ov_sum f a := by
  intro k
  induction k with
  | zero => rfl
  | succ k ih =>
    show ov_sum f (a + k) + f (a + k) = ov_sum f a
    rw [ih, h _ (Nat.le_add_right a k), Nat.add_zero]
theorem ov_sum128 {s ty co : Nat} (hs : s < 8) (ht : ty < 3) (hc : co < 10) (h1 : 1 ≤ s) : ov_sum (ov_T s (ov_q ty co)) 128 = ov_n s :=
  (ov_sumz (a := 10) (fun c h => ov_Tbig hc h) 118).trans (ov_d3 s hs ty ht co hc h1)
theorem ov_least {s ty co : Nat} (hs : s < 8) (ht : ty < 3) (hc : co < 10) (h1 : 1 ≤ s) : ∀ j, j < ov_m s ty co → ov_T s (ov_q ty co) j = 0 := by
  exact ov_d2 s hs ty ht co hc h1
theorem ov_Tm {s ty co : Nat} (hs : s < 8) (ht : ty < 3) (hc : co < 10) (h1 : 1 ≤ s) : 0 < ov_T s (ov_q ty co) (ov_m s ty co) := by
  rw [(ov_d0 s hs ty ht co hc h1).1]
  exact (ov_d0 s hs ty ht co hc h1).2
theorem ov_t_lt (s ty co : Nat) : ov_t s ty co < 3 := by
  unfold ov_t
  split
  · omega
  · split <;> omega
theorem ov_RO {s ty co : Nat} (hs : s < 8) (ht : ty < 3) (hc : co < 10) (h1 : 1 ≤ s) : ov_R s (ov_q ty co) (ov_m s ty co) (ov_only s ty co) := by
  unfold ov_R ov_only
  rw [(ov_d0 s hs ty ht co hc h1).1]
  by_cases e : ov_best s ty co = 1
  · rw [if_pos e]
    have d := ov_d4 s hs ty ht co hc h1 e
    have l := ov_t_lt s ty co
    exact Or.inr ⟨e, _, l, d, fun t g => of_decide_eq_true (ov_d4g s hs ty ht co hc t g) ⟨h1, e⟩, rfl⟩
  · rw [if_neg e]
    exact Or.inl ⟨e, rfl⟩
theorem ov_Tc {s ty co : Nat} (hs : s < 8) (ht : ty < 3) (hc : co < 10) (h1 : 1 ≤ s) (c : Nat) : ov_T s (ov_q ty co) c = if c = 0 then ov_free s ty co else if ov_D s ty co = true ∧ c = co then 1 else 0 := by
  by_cases e : c < 10
  · exact ov_d5 s hs ty ht co hc h1 c e
  · rw [ov_Tbig hc (by omega), if_neg (by omega), if_neg (fun z => by have := z.2; omega)]
/-- withCost's answer is the law's -/
theorem ov_due {s ty co : Nat} (hs : s < 8) (ht : ty < 3) (hc : co < 10) (h1 : 1 ≤ s) (x : Int32) :
    ov_w (ov_T s (ov_q ty co)) x = if x = 0 then nI (ov_free s ty co) else if ov_D s ty co = true ∧ x = nI co then 1 else 0 := by
  rcases pk_ix x (n := 128) (by omega) with h | h | ⟨j, hj, e⟩
  · rw [ov_wneg h, if_neg (fun z => by rw [z] at h; exact absurd h (by decide)), if_neg (fun z => by rw [z.2] at h; exact nI_pos (by omega) h)]
  · rw [ov_wbig h, if_neg (fun z => by rw [z] at h; exact absurd h (by decide)), if_neg (fun z => by rw [z.2] at h; exact nI_ge (a := co) (b := 128) (by omega) (by omega) h)]
  · subst e
    rw [ov_win hj, ov_Tc hs ht hc h1]
    by_cases e0 : j = 0
    · rw [if_pos e0, if_pos (by rw [e0]; rfl)]
    · rw [if_neg e0, if_neg (show ¬ nI j = 0 from fun z => e0 ((nI_eq (a := j) (b := 0) (by omega) (by omega)).mp z))]
      by_cases e1 : ov_D s ty co = true ∧ j = co
      · rw [if_pos e1, if_pos ⟨e1.1, by rw [e1.2]⟩]
        rfl
      · rw [if_neg e1, if_neg (fun z => e1 ⟨z.1, (nI_eq (by omega) (by omega)).mp z.2⟩)]
        rfl
end
section
/-! the law, for a node that was made: types s, cost co of type ty -/
def ov_H (s ty co : Nat) : Prop := s < 8 ∧ ty < 3 ∧ co < 10 ∧ 1 ≤ s
/-- dear, as the law keeps it -/
def ov_f (s ty co : Nat) : Int32 := if ov_D s ty co = true then 1 else 0
theorem ov_f0 {s ty co : Nat} (h : ov_f s ty co = 0) : ¬ ov_D s ty co = true := by
  intro z
  unfold ov_f at h
  rw [if_pos z] at h
  exact absurd h (by decide)
theorem ov_f1 {s ty co : Nat} (h : ¬ ov_f s ty co = 0) : ov_D s ty co = true := by
  by_cases z : ov_D s ty co = true
  · exact z
  · unfold ov_f at h
    rw [if_neg z] at h
    exact absurd rfl h
theorem ov_n_in : ∀ s, s < 8 → 1 ≤ s → 1 ≤ ov_n s ∧ ov_n s ≤ 3 := by decide +kernel
theorem ov_nm {s : Nat} (hs : s < 8) (h1 : 1 ≤ s) : nI (ov_n s) - 1 = nI (ov_n s - 1) := pk_sub (a := ov_n s) (b := 1) (ov_n_in s hs h1).1
theorem ov_best_le {s ty co : Nat} (hs : s < 8) (h1 : 1 ≤ s) : ov_best s ty co ≤ 3 := by
  have h := ov_n_in s hs h1
  unfold ov_best
  split <;> omega
theorem ov_ch_le {s ty co : Nat} (hs : s < 8) : ov_ch s ty co < 8 := by
  unfold ov_ch
  split
  · exact Nat.lt_of_le_of_lt (Nat.sub_le _ _) hs
  · exact hs
theorem ov_Dt {s ty co : Nat} (h : ov_D s ty co = true) : 0 < co ∧ s / 2 ^ ty % 2 = 1 := by
  unfold ov_D at h
  rw [Bool.and_eq_true, decide_eq_true_eq, decide_eq_true_eq] at h
  exact h
theorem ov_Di {s ty co : Nat} (h : 0 < co) (h2 : s / 2 ^ ty % 2 = 1) : ov_D s ty co = true := by
  unfold ov_D
  rw [Bool.and_eq_true, decide_eq_true_eq, decide_eq_true_eq]
  exact ⟨h, h2⟩
section ov_lawS
variable {post : Int32 → St0 → Prop} {mc ms kc ks : Nat} {x0 x1 x2 x3 x5 x7 x8 x9 x11 z0 : Int32} {nc ap uv : Int32} {a1 a2 a3 a4 a5 a6 a7 a8 a9 a10 a11 a12 a13 a14 a15 a16 a17 a18 a19 a20 : Nat → Int32} {s ty co : Nat}
theorem ov_417 (hh : ov_H s ty co) (k : ov_K s (ov_q ty co) a6 a7 a8) (hp : post 1 ())
    (hz : z0 = if x3 = 0 then nI (ov_free s ty co) else if ov_D s ty co = true ∧ x3 = nI co then 1 else 0) : wL_lawOf_417 post mc ms x3 z0 kc ks 1 ap uv a1 a2 a3 a4 a5 a6 a7 a8 a9 a10 a11 a12 a13 a14 a15 a16 a17 a18 a19 a20 :=
  ov_wc k x3 (fun r x v w u => br_t ((ov_due hh.1 hh.2.1 hh.2.2.1 hh.2.2.2 x3).trans hz.symm) hp)
theorem ov_382 (hh : ov_H s ty co) (k : ov_K s (ov_q ty co) a6 a7 a8) (hp : post 1 ()) (h5 : x5 = 1) (h9 : x9 = ov_f s ty co) (h2 : ov_D s ty co = true → x2 = nI co)
    (hz : z0 = nI (ov_free s ty co)) : wL_lawOf_382 post mc ms x2 x3 x5 x9 z0 kc ks 1 ap uv a1 a2 a3 a4 a5 a6 a7 a8 a9 a10 a11 a12 a13 a14 a15 a16 a17 a18 a19 a20 := by
  refine br_f (by rw [h5]; decide) (br_c (fun g => ov_417 hh k hp ?_) (fun g => br_c (fun g9 => ov_417 (z0 := 0) hh k hp ?_) (fun g9 => br_c (fun e => ov_417 (z0 := 1) hh k hp ?_) (fun e => ov_417 (z0 := 0) hh k hp ?_))))
  · rw [if_pos g, hz]
  · rw [h9] at g9
    rw [if_neg g, if_neg (fun z => ov_f0 g9 z.1)]
  · rw [h9] at g9
    rw [if_neg g, if_pos ⟨ov_f1 g9, e.trans (h2 (ov_f1 g9))⟩]
  · rw [if_neg g, if_neg (fun z => e (z.2.trans (h2 z.1).symm))]
theorem ov_339 (hh : ov_H s ty co) (k : ov_K s (ov_q ty co) a6 a7 a8) (hp : post 1 ()) (h5 : x5 = 1) (h9 : x9 = ov_f s ty co) (h2 : ov_D s ty co = true → x2 = nI co) (h8 : x8 = nI (ov_n s))
    (hz : z0 = ov_only s ty co) : wL_lawOf_339 post mc ms x2 x3 x5 x8 x9 z0 kc ks 1 ap uv a1 a2 a3 a4 a5 a6 a7 a8 a9 a10 a11 a12 a13 a14 a15 a16 a17 a18 a19 a20 := by
  have hh' := hh
  obtain ⟨hs, ht, hc, h1⟩ := hh'
  have hm : ov_m s ty co < 128 := Nat.lt_of_lt_of_le (ov_m_lt hc) (by omega)
  refine ov_ty k hm (ov_Tm hs ht hc h1) (ov_least hs ht hc h1) (ov_RO hs ht hc h1) (fun x v w u y z => br_t hz.symm ?_)
  refine ov_cn k hm (ov_Tm hs ht hc h1) (ov_least hs ht hc h1) (ov_RO hs ht hc h1) (fun x v w u y z => br_t hz.symm (br_c (fun g => ov_382 hh k hp h5 h9 h2 ?_) (fun g => ov_382 hh k hp h5 h9 h2 ?_)))
  · rw [h9] at g
    rw [h8]
    unfold ov_free
    rw [if_neg (ov_f0 g)]
  · rw [h9] at g
    rw [h8, ov_nm hs h1]
    unfold ov_free
    rw [if_pos (ov_f1 g)]
theorem ov_296 (hh : ov_H s ty co) (k : ov_K s (ov_q ty co) a6 a7 a8) (hp : post 1 ()) (h5 : x5 = 1) (h9 : x9 = ov_f s ty co) (h2 : ov_D s ty co = true → x2 = nI co) (h8 : x8 = nI (ov_n s))
    (h11 : x11 = nI (ov_best s ty co)) (hz : z0 = nI (ov_ch s ty co)) : wL_lawOf_296 post mc ms x2 x3 x5 x8 x9 x11 z0 kc ks 1 ap uv a1 a2 a3 a4 a5 a6 a7 a8 a9 a10 a11 a12 a13 a14 a15 a16 a17 a18 a19 a20 := by
  have hb := ov_best_le (ty := ty) (co := co) hh.1 hh.2.2.2
  have hl := ov_ch_le (ty := ty) (co := co) hh.1
  refine br_f (by rw [h5]; decide) (pk_eq (ov_best s ty co) 1 (fun e => pk_eq (ov_ch s ty co) 1 (fun e1 => ov_339 (z0 := 0) hh k hp h5 h9 h2 h8 ?_) (fun e1 => pk_eq (ov_ch s ty co) 2 (fun e2 => ov_339 (z0 := 1) hh k hp h5 h9 h2 h8 ?_) (fun e2 => ov_339 (z0 := 2) hh k hp h5 h9 h2 h8 ?_) hz) hz) (fun e => ov_339 (z0 := -4) hh k hp h5 h9 h2 h8 ?_) h11)
  · unfold ov_only ov_t
    rw [if_pos e, if_pos e1]
    rfl
  · unfold ov_only ov_t
    rw [if_pos e, if_neg e1, if_pos e2]
    rfl
  · unfold ov_only ov_t
    rw [if_pos e, if_neg e1, if_neg e2]
    rfl
  · unfold ov_only
    rw [if_neg e]
theorem ov_258 (hh : ov_H s ty co) (k : ov_K s (ov_q ty co) a6 a7 a8) (hp : post 1 ()) (h5 : x5 = 1) (h9 : x9 = ov_f s ty co) (h2 : ov_D s ty co = true → x2 = nI co) (h8 : x8 = nI (ov_n s))
    (h0 : x0 = nI s) (hx : ov_D s ty co = true → x1 = nI ty) (hz : z0 = nI (ov_best s ty co)) : wL_lawOf_258 post mc ms x0 x1 x2 x3 x5 x8 x9 z0 kc ks 1 ap uv a1 a2 a3 a4 a5 a6 a7 a8 a9 a10 a11 a12 a13 a14 a15 a16 a17 a18 a19 a20 := by
  have hh' := hh
  obtain ⟨hs, ht, hc, h1⟩ := hh'
  have hm : ov_m s ty co < 128 := Nat.lt_of_lt_of_le (ov_m_lt hc) (by omega)
  have hn := ov_n_in s hs h1
  refine ov_bc k hm (ov_Tm hs ht hc h1) (ov_least hs ht hc h1) (fun x v w u => br_t (by rw [hz, (ov_d0 s hs ty ht co hc h1).1]) (br_c (fun g => ov_296 hh k hp h5 h9 h2 h8 hz ?_) (fun g => pk_le (ov_n s) 1 (fun l => ov_296 hh k hp h5 h9 h2 h8 hz ?_) (fun l => ov_296 hh k hp h5 h9 h2 h8 hz ?_) h8)))
  · rw [h9] at g
    unfold ov_ch
    rw [if_neg (fun z => ov_f0 g z.1), h0]
  · unfold ov_ch
    rw [if_neg (fun z => by have := z.2; omega), h0]
  · rw [h9] at g
    have d := ov_f1 g
    unfold ov_ch
    rw [if_pos ⟨d, l⟩, h0, hx d]
    exact ov_c2 s hs ty ht (ov_Dt d).2
theorem ov_213 (hh : ov_H s ty co) (k : ov_K s (ov_q ty co) a6 a7 a8) (hp : post 1 ()) (h5 : x5 = 1) (h9 : x9 = ov_f s ty co) (h2 : ov_D s ty co = true → x2 = nI co) (h8 : x8 = nI (ov_n s))
    (h0 : x0 = nI s) (hx : ov_D s ty co = true → x1 = nI ty) (hz : z0 = nI (ov_m s ty co)) : wL_lawOf_213 post mc ms x0 x1 x2 x3 x5 x8 x9 z0 kc ks 1 ap uv a1 a2 a3 a4 a5 a6 a7 a8 a9 a10 a11 a12 a13 a14 a15 a16 a17 a18 a19 a20 := by
  have hh' := hh
  obtain ⟨hs, ht, hc, h1⟩ := hh'
  have hm : ov_m s ty co < 128 := Nat.lt_of_lt_of_le (ov_m_lt hc) (by omega)
  have hn := ov_n_in s hs h1
  refine ov_lc k hm (ov_Tm hs ht hc h1) (ov_least hs ht hc h1) (fun x v w u => br_t hz.symm (br_f (by rw [h5]; decide) (br_c (fun g => ov_258 hh k hp h5 h9 h2 h8 h0 hx ?_) (fun g => pk_le (ov_n s) 1 (fun l => ov_258 hh k hp h5 h9 h2 h8 h0 hx ?_) (fun l => ov_258 hh k hp h5 h9 h2 h8 h0 hx ?_) h8))))
  · rw [h9] at g
    unfold ov_best
    rw [if_neg (fun z => ov_f0 g z.1), h8]
  · unfold ov_best
    rw [if_neg (fun z => by have := z.2; omega), h8]
  · rw [h9] at g
    unfold ov_best
    rw [if_pos ⟨ov_f1 g, l⟩, h8, ov_nm hs h1]
theorem ov_186 (hh : ov_H s ty co) (k : ov_K s (ov_q ty co) a6 a7 a8) (hp : post 1 ()) (h5 : x5 = 1) (h2 : ov_D s ty co = true → x2 = nI co) (h8 : x8 = nI (ov_n s))
    (h0 : x0 = nI s) (hx : ov_D s ty co = true → x1 = nI ty) (hz : z0 = ov_f s ty co) : wL_lawOf_186 post mc ms x0 x1 x2 x3 x5 x8 z0 kc ks 1 ap uv a1 a2 a3 a4 a5 a6 a7 a8 a9 a10 a11 a12 a13 a14 a15 a16 a17 a18 a19 a20 := by
  have hn := ov_n_in s hh.1 hh.2.2.2
  refine br_f (by rw [h5]; decide) (br_c (fun g => ov_213 (z0 := 0) hh k hp h5 hz h2 h8 h0 hx ?_) (fun g => pk_eq (ov_n s) 1 (fun e => ov_213 hh k hp h5 hz h2 h8 h0 hx ?_) (fun e => ov_213 (z0 := 0) hh k hp h5 hz h2 h8 h0 hx ?_) h8))
  · rw [hz] at g
    unfold ov_m
    rw [if_neg (fun z => ov_f0 g z.1)]
    rfl
  · rw [hz] at g
    unfold ov_m
    rw [if_pos ⟨ov_f1 g, e⟩]
    exact h2 (ov_f1 g)
  · unfold ov_m
    rw [if_neg (fun z => e z.2)]
    rfl
/-- no cost was set -/
theorem ov_142u (hs : s < 8) (h1 : 1 ≤ s) (k : ov_K s (ov_q 0 0) a6 a7 a8) (hp : post 1 ()) (h5 : x5 = 1) (h7 : x7 = 0) (h0 : x0 = nI s) (hz : z0 = nI (ov_n s)) : wL_lawOf_142 post mc ms x0 x1 x2 x3 x5 x7 z0 kc ks 1 ap uv a1 a2 a3 a4 a5 a6 a7 a8 a9 a10 a11 a12 a13 a14 a15 a16 a17 a18 a19 a20 := by
  have hh : ov_H s 0 0 := ⟨hs, by omega, by omega, h1⟩
  have nd : ¬ ov_D s 0 0 = true := fun z => absurd (ov_Dt z).1 (by omega)
  refine ov_so k (fun x v w u => br_t (by rw [hz, ov_sum128 hs (by omega) (by omega) h1]) (br_f (by rw [h5]; decide) (br_t h7 (ov_186 (z0 := 0) hh k hp h5 (fun z => absurd z nd) hz h0 (fun z => absurd z nd) ?_))))
  unfold ov_f
  rw [if_neg nd]
/-- type ty costs co -/
theorem ov_142p (hh : ov_H s ty co) (k : ov_K s (ov_q ty co) a6 a7 a8) (hp : post 1 ()) (h5 : x5 = 1) (h7 : x7 = 1) (h0 : x0 = nI s) (hz : z0 = nI (ov_n s)) (e1 : x1 = nI ty) (e2 : x2 = nI co) : wL_lawOf_142 post mc ms x0 x1 x2 x3 x5 x7 z0 kc ks 1 ap uv a1 a2 a3 a4 a5 a6 a7 a8 a9 a10 a11 a12 a13 a14 a15 a16 a17 a18 a19 a20 := by
  have hh' := hh
  obtain ⟨hs, ht, hc, h1⟩ := hh'
  refine ov_so k (fun x v w u => br_t (by rw [hz, ov_sum128 hs ht hc h1]) (br_f (by rw [h5]; decide) (br_f (by rw [h7]; decide) (pk_le co 0 (fun l => ov_186 (z0 := 0) hh k hp h5 (fun _ => e2) hz h0 (fun _ => e1) ?_) (fun l => pk_eq (s / 2 ^ ty % 2) 1 (fun b => ov_186 (z0 := 1) hh k hp h5 (fun _ => e2) hz h0 (fun _ => e1) ?_) (fun b => ov_186 (z0 := 0) hh k hp h5 (fun _ => e2) hz h0 (fun _ => e1) ?_) ?_) e2))))
  · unfold ov_f
    rw [if_neg (fun z => by have := (ov_Dt z).1; omega)]
  · unfold ov_f
    rw [if_pos (ov_Di l b)]
  · unfold ov_f
    rw [if_neg (fun z => b (ov_Dt z).2)]
  · rw [h0, e1]
    exact ov_bit hs (by omega)
end ov_lawS
end
section
/-! the law for a set that makes no node: every query refuses -/
section ov_noS
variable {post : Int32 → St0 → Prop} {mc ms kc ks : Nat} {x0 x1 x2 x3 x7 x8 : Int32} {nc ap uv : Int32} {a1 a2 a3 a4 a5 a6 a7 a8 a9 a10 a11 a12 a13 a14 a15 a16 a17 a18 a19 a20 : Nat → Int32}
theorem ov_so0 {Q : Int32 → St2 → Prop} (H : Q (-1) (0, ap, uv, a1, a2, a3, a4, a5, a6, a7, a8, a9, a10, a11, a12, a13, a14, a15, a16, a17, a18, a19, a20)) : wpX_solutions Q (0, ap, uv, a1, a2, a3, a4, a5, a6, a7, a8, a9, a10, a11, a12, a13, a14, a15, a16, a17, a18, a19, a20) 0 3 := by
  unfold wpX_solutions
  exact ov_rf0 (br_f (by decide) H)
theorem ov_lc0 {Q : Int32 → St2 → Prop} (H : Q (-1) (0, ap, uv, a1, a2, a3, a4, a5, a6, a7, a8, a9, a10, a11, a12, a13, a14, a15, a16, a17, a18, a19, a20)) : wpX_leastCost Q (0, ap, uv, a1, a2, a3, a4, a5, a6, a7, a8, a9, a10, a11, a12, a13, a14, a15, a16, a17, a18, a19, a20) 0 3 := by
  unfold wpX_leastCost
  exact ov_rf0 (br_f (by decide) H)
theorem ov_bc0 {Q : Int32 → St2 → Prop} (H : Q (-1) (0, ap, uv, a1, a2, a3, a4, a5, a6, a7, a8, a9, a10, a11, a12, a13, a14, a15, a16, a17, a18, a19, a20)) : wpX_bestCount Q (0, ap, uv, a1, a2, a3, a4, a5, a6, a7, a8, a9, a10, a11, a12, a13, a14, a15, a16, a17, a18, a19, a20) 0 3 := by
  unfold wpX_bestCount
  exact ov_rf0 (br_f (by decide) H)
theorem ov_ty0 {Q : Int32 → St2 → Prop} (H : Q (-1) (0, ap, uv, a1, a2, a3, a4, a5, a6, a7, a8, a9, a10, a11, a12, a13, a14, a15, a16, a17, a18, a19, a20)) : wpX_typeOf Q (0, ap, uv, a1, a2, a3, a4, a5, a6, a7, a8, a9, a10, a11, a12, a13, a14, a15, a16, a17, a18, a19, a20) 0 3 := by
  unfold wpX_typeOf
  exact ov_rf0 (br_f (by decide) H)
theorem ov_cn0 {Q : Int32 → St2 → Prop} (H : Q (-1) (0, ap, uv, a1, a2, a3, a4, a5, a6, a7, a8, a9, a10, a11, a12, a13, a14, a15, a16, a17, a18, a19, a20)) : wpX_chosen Q (0, ap, uv, a1, a2, a3, a4, a5, a6, a7, a8, a9, a10, a11, a12, a13, a14, a15, a16, a17, a18, a19, a20) 0 3 0 := by
  unfold wpX_chosen
  exact ov_rf0 (br_f (by decide) H)
theorem ov_wc0 {Q : Int32 → St2 → Prop} (H : Q (-1) (0, ap, uv, a1, a2, a3, a4, a5, a6, a7, a8, a9, a10, a11, a12, a13, a14, a15, a16, a17, a18, a19, a20)) : wpX_withCost Q (0, ap, uv, a1, a2, a3, a4, a5, a6, a7, a8, a9, a10, a11, a12, a13, a14, a15, a16, a17, a18, a19, a20) 0 3 x3 := by
  unfold wpX_withCost
  exact ov_rf0 (br_f (by decide) H)
theorem ov_n417 (hp : post 1 ()) : wL_lawOf_417 post mc ms x3 (-1) kc ks 0 ap uv a1 a2 a3 a4 a5 a6 a7 a8 a9 a10 a11 a12 a13 a14 a15 a16 a17 a18 a19 a20 :=
  ov_wc0 (br_t rfl hp)
theorem ov_n339 (hp : post 1 ()) : wL_lawOf_339 post mc ms x2 x3 0 x8 0 (-1) kc ks 0 ap uv a1 a2 a3 a4 a5 a6 a7 a8 a9 a10 a11 a12 a13 a14 a15 a16 a17 a18 a19 a20 :=
  ov_ty0 (br_t rfl (ov_cn0 (br_t rfl (br_t rfl (br_t rfl (ov_n417 hp))))))
theorem ov_n258 (hp : post 1 ()) : wL_lawOf_258 post mc ms x0 x1 x2 x3 0 x8 0 (-1) kc ks 0 ap uv a1 a2 a3 a4 a5 a6 a7 a8 a9 a10 a11 a12 a13 a14 a15 a16 a17 a18 a19 a20 :=
  ov_bc0 (br_t rfl (br_t rfl (br_t rfl (ov_n339 hp))))
theorem ov_n213 (hp : post 1 ()) : wL_lawOf_213 post mc ms x0 x1 x2 x3 0 x8 0 (-1) kc ks 0 ap uv a1 a2 a3 a4 a5 a6 a7 a8 a9 a10 a11 a12 a13 a14 a15 a16 a17 a18 a19 a20 :=
  ov_lc0 (br_t rfl (br_t rfl (ov_n258 hp)))
theorem ov_n142 (hp : post 1 ()) : wL_lawOf_142 post mc ms x0 x1 x2 x3 0 x7 (-1) kc ks 0 ap uv a1 a2 a3 a4 a5 a6 a7 a8 a9 a10 a11 a12 a13 a14 a15 a16 a17 a18 a19 a20 :=
  ov_so0 (br_t rfl (br_t rfl (br_t rfl (ov_n213 hp))))
end ov_noS
section ov_midS
variable {post : Int32 → St0 → Prop} {mc ms kc ks : Nat} {x0 x1 x2 x3 x5 z0 z1 : Int32} {nc ap uv : Int32} {a1 a2 a3 a4 a5 a6 a7 a8 a9 a10 a11 a12 a13 a14 a15 a16 a17 a18 a19 a20 : Nat → Int32}
/-- the law's count -/
def ov_cnt (x0 : Int32) : Int32 := ((x0 &&& 1) + ((x0 >>> ((1 : Int32) &&& 31)) &&& 1)) + ((x0 >>> ((2 : Int32) &&& 31)) &&& 1)
theorem ov_mid (hz : z1 = z0)
    (Hu : (x5 = 0 → wL_lawOf_142 post mc ms x0 x1 x2 x3 x5 0 (-1) kc ks nc ap uv a1 a2 a3 a4 a5 a6 a7 a8 a9 a10 a11 a12 a13 a14 a15 a16 a17 a18 a19 a20) ∧ (¬ x5 = 0 → wL_lawOf_142 post mc ms x0 x1 x2 x3 x5 0 (ov_cnt x0) kc ks nc ap uv a1 a2 a3 a4 a5 a6 a7 a8 a9 a10 a11 a12 a13 a14 a15 a16 a17 a18 a19 a20))
    (Hp : ∀ ty co, ty < 3 → co < 10 → x1 = nI ty → x2 = nI co → (x5 = 0 → wL_lawOf_142 post mc ms x0 x1 x2 x3 x5 1 (-1) kc ks nc ap uv a1 a2 a3 a4 a5 (upd a6 ty (nI co)) a7 a8 a9 a10 a11 a12 a13 a14 a15 a16 a17 a18 a19 a20) ∧ (¬ x5 = 0 → wL_lawOf_142 post mc ms x0 x1 x2 x3 x5 1 (ov_cnt x0) kc ks nc ap uv a1 a2 a3 a4 a5 (upd a6 ty (nI co)) a7 a8 a9 a10 a11 a12 a13 a14 a15 a16 a17 a18 a19 a20)) :
    wL_lawOf_43 post mc ms x0 x1 x2 x3 x5 z0 z1 kc ks nc ap uv a1 a2 a3 a4 a5 a6 a7 a8 a9 a10 a11 a12 a13 a14 a15 a16 a17 a18 a19 a20 := by
  refine br_t hz (br_c (fun g => ?_) (fun g => br_c (fun g2 => ?_) (fun g2 => br_f (by decide) (br_c (fun g3 => ?_) (fun g3 => br_c (fun g4 => ?_) (fun g4 => ?_))))))
  · exact br_t rfl (br_t g (br_t rfl (br_t rfl (br_t rfl Hu))))
  · exact br_t rfl (br_f g (br_t g2 (br_t rfl (br_t rfl (br_t rfl Hu)))))
  · exact br_f g (br_f g2 (br_f (by decide) (br_t g3 (br_f (by decide) (br_t rfl (br_t rfl Hu))))))
  · exact br_f g (br_f g2 (br_f (by decide) (br_f g3 (br_f (Int32.not_le.mpr g4) (br_f (by decide) (br_t rfl (br_t rfl Hu)))))))
  · have g4' : x2 ≤ 9 := Int32.not_lt.mp g4
    obtain ⟨ty, ht, e1⟩ := nI_of2 (x := x1) (M := 2) (n := 2) (by decide) g (Int32.not_lt.mp g2)
    obtain ⟨co, hc, e2⟩ := nI_of2 (x := x2) (M := 9) (n := 9) (by decide) g3 g4'
    exact br_f g (br_f g2 (br_f (by decide) (br_f g3 (br_t g4' ⟨pk_in ty 3 (by omega) e1, nm_r (e' := upd a6 ty (nI co)) (by rw [e1, e2, nI_clamp (by omega)]) (br_f (by decide) (br_f (by decide) (br_t rfl (Hp ty co (by omega) (by omega) e1 e2))))⟩))))
/-- a set of types: the node is made -/
theorem ov_25y {s : Nat} (hs : s < 8) (h1 : 1 ≤ s) (hp : post 1 ()) (h0 : x0 = nI s) (h6 : ∀ t, t < 3 → a6 t = 0) : wL_lawOf_25 post mc ms x0 x1 x2 x3 1 kc ks 0 ap uv a1 a2 a3 a4 a5 a6 a7 a8 a9 a10 a11 a12 a13 a14 a15 a16 a17 a18 a19 a20 := by
  have l1 : ¬ x0 < 1 := by rw [h0]; exact nI_nlt (a := s) (b := 1) h1 (by omega)
  have l2 : x0 ≤ 7 := by rw [h0]; exact nI_le (a := s) (b := 7) (by omega) (by omega)
  have cn : ov_cnt x0 = nI (ov_n s) := by rw [h0]; exact ov_c1 s hs
  refine br_f l1 (br_t l2 (br_f (by decide) ⟨pk_in 0 12 (by omega), nm_r (e' := upd a7 0 0) (by rw [sb_cl0]) ⟨pk_in 0 12 (by omega), nm_r (e' := upd a8 0 (nI s)) (by rw [sb_cl0, h0]) (nm_r (e' := 1) (by decide) (br_f (by decide) (ov_mid (by decide) (br_f (by decide) ?_) (fun ty co ht hc e1 e2 => br_f (by decide) ?_))))⟩⟩))
  · exact ov_142u hs h1 ⟨hs, pk_us, pk_us, fun t ht => ⟨by rw [h6 t ht]; unfold ov_q; split <;> rfl, Nat.lt_of_lt_of_le (ov_q_lt (by omega) t) (by omega)⟩⟩ hp rfl rfl h0 cn
  · refine ov_142p ⟨hs, ht, hc, h1⟩ ⟨hs, pk_us, pk_us, fun t ht' => ⟨?_, Nat.lt_of_lt_of_le (ov_q_lt hc t) (by omega)⟩⟩ hp rfl rfl h0 cn e1 e2
    unfold ov_q
    by_cases e : t = ty
    · rw [if_pos e, e, pk_us]
    · rw [if_neg e, pk_un e, h6 t ht']
      rfl
/-- no set: none is made -/
theorem ov_25n (hp : post 1 ()) (h0 : x0 < 1 ∨ 7 < x0) : wL_lawOf_25 post mc ms x0 x1 x2 x3 0 kc ks 0 ap uv a1 a2 a3 a4 a5 a6 a7 a8 a9 a10 a11 a12 a13 a14 a15 a16 a17 a18 a19 a20 := by
  have A : wL_lawOf_43 post mc ms x0 x1 x2 x3 0 (-1) (-1) kc ks 0 ap uv a1 a2 a3 a4 a5 a6 a7 a8 a9 a10 a11 a12 a13 a14 a15 a16 a17 a18 a19 a20 := ov_mid rfl (br_t rfl (ov_n142 hp)) (fun ty co _ _ _ _ => br_t rfl (ov_n142 hp))
  by_cases g : x0 < 1
  · exact br_t g (br_t rfl A)
  · have g2 : 7 < x0 := h0.resolve_left g
    exact br_f g (br_f (Int32.not_le.mpr g2) (br_t rfl A))
end ov_midS
/-- the new object -/
theorem ov_init {post : St2 → Prop} (H : ∀ w, post (0, 0, 0, w, fun _ => 0, fun _ => 0, fun _ => 0, upd (upd (fun _ => 0) 0 7) 1 7, fun _ => 0, fun _ => 0, fun _ => 0, fun _ => 0, fun _ => 0, fun _ => 0, fun _ => 0, fun _ => 0, fun _ => 0, fun _ => 0, fun _ => 0, fun _ => 0, fun _ => 0, fun _ => 0, fun _ => 0)) : wpX_init post 20 5143 (0, 0, 0) := by
  refine ⟨by decide, by decide, by decide, by decide, by decide, by decide, by decide, by decide, by decide, by decide, by decide, by decide, by decide, by decide, by decide, by decide, by decide, by decide, by decide, by decide, by decide, by decide, by decide, by decide, by decide, by decide, by decide, by decide, by decide, by decide, by decide, by decide, by decide, by decide, by decide, by decide, by decide, by decide, by decide, by decide, ?_⟩
  exact pk_loop (fun n i w => wX_init_166 post 20 5143 20 5143 0 0 0 n (nI i) w (fun _ => 0) (fun _ => 0) (fun _ => 0) (fun _ => 0) (fun _ => 0) (fun _ => 0) (fun _ => 0) (fun _ => 0) (fun _ => 0) (fun _ => 0) (fun _ => 0) (fun _ => 0) (fun _ => 0) (fun _ => 0) (fun _ => 0) (fun _ => 0) (fun _ => 0) (fun _ => 0) (fun _ => 0)) (fun _ _ => True) 9 0 (fun _ => 0) (by omega) trivial
    (fun n w _ => pk_le 9 9 (fun _ => nm_e (nm_e (H w))) (fun z => absurd z (by omega)))
    (fun n i w hi _ hw => pk_le 9 i (fun z => absurd z (by omega)) (fun _ => ⟨by decide, br_c (fun _ => ⟨pk_in i 9 hi, nm_e (nm_r (nI_1 i) (hw _ trivial))⟩) (fun _ => ⟨pk_in i 9 hi, nm_e (nm_r (nI_1 i) (hw _ trivial))⟩)⟩))
theorem ov_lawOf {post : Int32 → St0 → Prop} (hp : post 1 ()) (x0 x1 x2 x3 : Int32) : wpL_lawOf post 21 5166 () x0 x1 x2 x3 := by
  refine ⟨by decide, by decide, 20, 5143, by decide, by decide, ov_init (fun w => ?_)⟩
  refine br_c (fun g => ov_25n hp (Or.inl g)) (fun g => br_c (fun g2 => ov_25n hp (Or.inr g2)) (fun g2 => ?_))
  obtain ⟨s, hs, e⟩ := nI_of2 (x := x0) (M := 7) (n := 7) (by decide) (fun z => g (Int32.lt_trans z (by decide))) (Int32.not_lt.mp g2)
  have h1 : 1 ≤ s := by
    rcases Nat.eq_zero_or_pos s with z | z
    · rw [z] at e
      exact absurd (show x0 < 1 by rw [e]; decide) g
    · exact z
  exact ov_25y (by omega) h1 hp e (fun _ _ => rfl)
end
section
theorem ov_cell {P : Int32 → Prop} {L : Nat} {xs : Nat → Int32} (j : Nat) (hj : j < 4) (hL : L ≤ 4) (H : ∀ x, P x) : wpL_cellAt P L xs () (nI j) :=
  pk_le L j (fun _ => H _) (fun z => ⟨pk_in j L z, H _⟩)
theorem i_vc (xs : Nat → Int32) (L : Nat) (hL : L ≤ 4) : wpL_law (fun r => r = 1) L xs :=
  ov_cell 0 (by omega) hL (fun x0 => ov_cell 1 (by omega) hL (fun x1 => ov_cell 2 (by omega) hL (fun x2 => ov_cell 3 (by omega) hL (fun x3 => ⟨21, 5166, by omega, by omega, ov_lawOf rfl x0 x1 x2 x3⟩))))
end
