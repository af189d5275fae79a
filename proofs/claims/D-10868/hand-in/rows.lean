section
/-! closed tables -/
theorem ft_bit : ∀ w, w < 8 → ∀ m, m < 3 → ((((nI w) >>> (nI m &&& 31)) &&& 1 = 0) ↔ Nat.testBit w m = false) := by decide +kernel
theorem ft_or : ∀ w, w < 8 → ∀ m, m < 3 → (nI w ||| ((1 : Int32) <<< (nI m &&& 31)) = nI (w ||| 2 ^ m) ∧ w ||| 2 ^ m < 8 ∧ Nat.testBit (w ||| 2 ^ m) m = true ∧ ∀ k, k < 3 → k ≠ m → Nat.testBit (w ||| 2 ^ m) k = Nat.testBit w k) := by decide +kernel
theorem ft_b8 : ∀ w, w < 16 → (nI w).toInt8.toInt32 = nI w := by decide +kernel
theorem ft_one : ∀ m, m < 3 → ((((1 : Int32) <<< (nI m &&& 31)).toInt8.toInt32) = nI (2 ^ m) ∧ 2 ^ m < 8 ∧ ∀ k, k < 3 → (Nat.testBit (2 ^ m) k = true ↔ k = m)) := by decide +kernel
def ft_cl (w m : Nat) : Nat := w &&& (7 ^^^ 2 ^ m)
theorem ft_clr : ∀ w, w < 8 → ∀ m, m < 3 → (((nI w &&& (((1 : Int32) <<< (nI m &&& 31)) ^^^ (-1))).toInt8.toInt32) = nI (ft_cl w m) ∧ ft_cl w m < 8 ∧ ∀ k, k < 3 → (Nat.testBit (ft_cl w m) k = true ↔ (Nat.testBit w k = true ∧ k ≠ m))) := by decide +kernel
theorem ft_t0 : ∀ k, k < 3 → Nat.testBit 0 k = false := by decide +kernel
theorem ft_pres : ∀ g, g < 2 → ∀ j, j < 5 → ((((nI g) >>> (nI j &&& 31)) &&& 1 = 0) ↔ ¬ (g = 1 ∧ j = 0)) := by decide +kernel
theorem ft_or3 : ∀ a, a < 16 → ∀ b, b < 16 → ∀ c, c < 16 → (((nI a ||| nI b) ||| nI c) = 0 ↔ (a = 0 ∧ b = 0 ∧ c = 0)) := by decide +kernel
theorem ft_sh3 {k : Nat} (h : k < 100000) : (nI k + 7) >>> ((3 : Int32) &&& 31) = nI ((k + 7) / 8) := by
  have e : nI k + 7 = nI (k + 7) := nI_add k 7
  rw [e]
  exact pk_shrN (by omega) _ 3 (by decide)
theorem ft_fill {s : Nat → Int32} {i : Nat} {v : Int32} (h : ∀ j, j < i → s j = v) : ∀ j, j < i + 1 → upd s i v j = v := by
  intro j hj
  by_cases ej : j = i
  · rw [ej, pk_us]
  · rw [pk_un ej]
    exact h j (by omega)
/-- what a place costs: c is the column -/
def ft_c (w : Nat) (T : Nat → Nat) (c : Nat) : Nat := if Nat.testBit w ((c - 1) / 5) = true then 8 * ((c - 1) % 5 + 1) * T ((c - 1) / 5) else 100000
theorem ft_c_le {w c : Nat} {T : Nat → Nat} (hT : T ((c - 1) / 5) ≤ 15) : ft_c w T c ≤ 100000 := by
  unfold ft_c
  split
  · have h5 : (c - 1) % 5 + 1 ≤ 5 := by omega
    have := Nat.mul_le_mul (Nat.mul_le_mul (Nat.le_refl 8) h5) hT
    omega
  · omega
/-- the answer of a matching, against the picture: g jobs (0 or 1), machines below n, w the set of machines that may be taken, T their times -/
def ft_R (n g w : Nat) (T : Nat → Nat) (r : Int32) : Prop := (g = 0 ∧ r = 0) ∨ (g = 1 ∧ ((∃ m, m < n ∧ Nat.testBit w m = true ∧ r = nI (T m) ∧ ∀ k, k < n → Nat.testBit w k = true → T m ≤ T k) ∨ ((∀ k, k < n → Nat.testBit w k = false) ∧ r = -1)))
def ft_K (n g w : Nat) (T : Nat → Nat) (k : Nat) : Prop := (g = 0 ∧ k = 0) ∨ (g = 1 ∧ ∃ c, 1 ≤ c ∧ c ≤ 5 * n ∧ k = ft_c w T c ∧ ∀ j, 1 ≤ j → j ≤ 5 * n → ft_c w T c ≤ ft_c w T j)
theorem ft_first (w m : Nat) (T : Nat → Nat) (h : Nat.testBit w m = true) : ft_c w T (5 * m + 1) = 8 * T m := by
  unfold ft_c
  rw [show (5 * m + 1 - 1) / 5 = m by omega, show (5 * m + 1 - 1) % 5 = 0 by omega, if_pos h]
theorem ft_KR {n g w k : Nat} {T : Nat → Nat} (hn : n ≤ 3) (hT : ∀ m, m < 3 → T m ≤ 15) (h : ft_K n g w T k) : k ≤ 100000 ∧ ft_R n g w T (if k < 100000 then nI ((k + 7) / 8) else -1) := by
  rcases h with ⟨hg, hk⟩ | ⟨hg, c, h1, h2, hk, hm⟩
  · refine ⟨by omega, Or.inl ⟨hg, ?_⟩⟩
    rw [hk]
    decide
  · have hc3 : (c - 1) / 5 < n := by omega
    refine ⟨by rw [hk]; exact ft_c_le (hT _ (by omega)), Or.inr ⟨hg, ?_⟩⟩
    by_cases hb : Nat.testBit w ((c - 1) / 5) = true
    · have e := ft_first w ((c - 1) / 5) T hb
      have l := hm (5 * ((c - 1) / 5) + 1) (by omega) (by omega)
      have t15 := hT ((c - 1) / 5) (by omega)
      have ek : k = 8 * T ((c - 1) / 5) := by
        rw [e] at l
        rw [hk]
        have g1 : ft_c w T c = 8 * ((c - 1) % 5 + 1) * T ((c - 1) / 5) := by
          unfold ft_c
          rw [if_pos hb]
        have g2 : 8 * T ((c - 1) / 5) ≤ 8 * ((c - 1) % 5 + 1) * T ((c - 1) / 5) := Nat.mul_le_mul (by omega) (Nat.le_refl _)
        omega
      refine Or.inl ⟨(c - 1) / 5, hc3, hb, ?_, fun m' hm' hb' => ?_⟩
      · rw [if_pos (by omega), ek, show (8 * T ((c - 1) / 5) + 7) / 8 = T ((c - 1) / 5) by omega]
      · have l' := hm (5 * m' + 1) (by omega) (by omega)
        rw [ft_first w m' T hb'] at l'
        omega
    · have ek : k = 100000 := by
        rw [hk]
        unfold ft_c
        rw [if_neg hb]
      refine Or.inr ⟨fun m' hm' => ?_, ?_⟩
      · rcases hb' : Nat.testBit w m' with _ | _
        · rfl
        · have l' := hm (5 * m' + 1) (by omega) (by omega)
          rw [ft_first w m' T hb'] at l'
          have := hT m' (by omega)
          omega
      · rw [if_neg (by omega)]
/-! costs -/
theorem ft_mat {post : Int32 → Prop} {n c : Nat} {fP fR fC fN fL : Int32} {a1 a2 a3 a4 a5 a6 a7 a8 a9 a10 : Nat → Int32} (hn : n ≤ 3) (h1 : 1 ≤ c) (hc : c ≤ 5 * n) (H : post (nI ((c - 1) / 5))) : wpX_machineAt post ((nI n), fP, (-1), (-1), fR, fC, fN, fL, a1, a2, a3, a4, a5, a6, a7, a8, a9, a10) (nI c) := by
  have e : (nI c - 1) / 5 = nI ((c - 1) / 5) := by
    obtain ⟨d, rfl⟩ : ∃ d, c = d + 1 := ⟨c - 1, by omega⟩
    rw [nI_pred]
    exact pk_div (d := 5) (by omega) (by decide) (by decide)
  exact ⟨by decide, nm_r e (pk_le n ((c - 1) / 5) (fun z => absurd z (by omega)) (fun _ => H))⟩
theorem ft_cost {post : Int32 → Prop} {n c w : Nat} {T : Nat → Nat} {fP fR fC fN fL : Int32} {a1 a2 a3 a4 a5 a6 a7 a8 a9 a10 : Nat → Int32} (hn : n ≤ 3) (hc1 : 1 ≤ c) (hc : c ≤ 5 * n) (h3 : a3 1 = nI 0) (h2 : a2 0 = nI w) (hw : w < 8) (hT : ∀ m, m < 3 → a1 m = nI (T m) ∧ T m ≤ 15) (H : post (nI (ft_c w T c))) : wpX_costOf post ((nI n), fP, (-1), (-1), fR, fC, fN, fL, a1, a2, a3, a4, a5, a6, a7, a8, a9, a10) (nI 1) (nI c) := by
  have hm : (c - 1) / 5 < 3 := by omega
  have e5 : (nI c - 1) - (nI c - 1) / 5 * 5 + 1 = nI ((c - 1) % 5 + 1) := by
    obtain ⟨d, rfl⟩ : ∃ d, c = d + 1 := ⟨c - 1, by omega⟩
    rw [nI_pred, ← nI_1]
    congr 1
    exact pk_rem (d := 5) (by omega) (by decide) (by decide)
  refine ⟨pk_in 1 6 (by omega), nm_r (e' := nI 0) (by rw [nI_clamp (by omega)]; exact h3) (ft_mat hn hc1 hc ?_)⟩
  rw [nI_clamp (show 0 < 2 ^ 31 by omega), h2]
  have e0 : nI 0 * 3 + nI ((c - 1) / 5) = nI ((c - 1) / 5) := by
    have : nI 0 * 3 = nI 0 := by decide
    rw [this, nI_add, Nat.zero_add]
  rw [e0, nI_clamp (show (c - 1) / 5 < 2 ^ 31 by omega), (hT _ hm).1]
  unfold ft_c at H
  refine br_f (nI_pos (by omega)) ⟨pk_in 0 5 (by omega), ?_⟩
  by_cases hb : Nat.testBit w ((c - 1) / 5) = true
  · rw [if_pos hb] at H
    refine br_f (fun z => by rw [(ft_bit w hw _ hm).mp z] at hb; exact absurd hb (by decide)) ⟨by decide, nm_r e5 ⟨pk_in ((c - 1) / 5) 15 (by omega), nm_r (e' := nI (8 * ((c - 1) % 5 + 1) * T ((c - 1) / 5))) ?_ (br_f ?_ H)⟩⟩
    · rw [← pk_mul, ← pk_mul]
      rfl
    · intro z
      have : nI ((c - 1) / 5) < 0 := by rw [z]; decide
      exact nI_pos (by omega) this
  · rw [if_neg hb] at H
    exact br_t ((ft_bit w hw _ hm).mpr (by simpa using hb)) H
end
section
theorem ft_a121 {post : Int32 → St2 → Prop} {x3 x4 : Int32} {e : Nat} {fM fP fD fK fR fN fL : Int32} {a1 a2 a3 a4 a5 a6 a7 a8 a9 a10 : Nat → Int32} (he : e ≤ 15) (h6 : ∀ j, j ≤ e → vp_in (a6 j) 6) (H : ∀ b4 b5 b8 : Nat → Int32, post x4 (fM, fP, fD, fK, fR, (nI e), fN, fL, a1, a2, a3, b4, b5, a6, a7, b8, a9, a10)) : ∃ f, wX_advance_121 post x3 x4 fM fP fD fK fR (nI e) fN fL f 0 a1 a2 a3 a4 a5 a6 a7 a8 a9 a10 :=
  pk_loop (σ := (Nat → Int32) × (Nat → Int32) × (Nat → Int32)) (fun f i s => wX_advance_121 post x3 x4 fM fP fD fK fR (nI e) fN fL f (nI i) a1 a2 a3 s.1 s.2.1 a6 a7 s.2.2 a9 a10) (fun _ _ => True) (e + 1) 0 (a4, a5, a8) (by omega) trivial
    (fun f s _ => pk_lt e (e + 1) (fun _ => H s.1 s.2.1 s.2.2) (fun z => absurd z (by omega)))
    (fun f i s hi _ hw => by
      have g6 : vp_in (a6 (nI i).toNatClampNeg) 6 := by rw [nI_clamp (by omega)]; exact h6 i (by omega)
      exact pk_lt e i (fun z => absurd z (by omega)) (fun z => ⟨pk_in i 24 (by omega), br_c
        (fun g => ⟨pk_in i 24 (by omega), pk_in i 24 (by omega), nm_e (nm_r (nI_1 i) (hw (s.1, s.2.1, upd s.2.2 (nI i).toNatClampNeg (s.2.2 (nI i).toNatClampNeg - x3)) trivial))⟩)
        (fun g => ⟨pk_in i 24 (by omega), g6, g6, nm_e ⟨pk_in i 24 (by omega), pk_in i 24 (by omega), nm_e (nm_r (nI_1 i) (hw (_, _, s.2.2) trivial))⟩⟩)⟩))
theorem ft_a89 {post : Int32 → St2 → Prop} {J : Int32 → Int32 → Int32 → (Nat → Int32) → (Nat → Int32) → (Nat → Int32) → (Nat → Int32) → (Nat → Int32) → (Nat → Int32) → (Nat → Int32) → (Nat → Int32) → (Nat → Int32) → (Nat → Int32) → Prop} {x1 x2 x3 x4 : Int32} {k : Nat} {fM fP fD fK fR fC fN fL : Int32} {a1 a2 a3 a4 a5 a6 a7 a8 a9 a10 : Nat → Int32} (hk : k < 24) (ha : x3 ≤ a8 k → J x3 x4 (nI (k + 1)) a1 a2 a3 a4 a5 a6 a7 a8 a9 a10) (hb : ¬ x3 ≤ a8 k → J (a8 k) (nI k) (nI (k + 1)) a1 a2 a3 a4 a5 a6 a7 a8 a9 a10) : wX_advance_89 post J x1 x2 x3 x4 (nI k) fM fP fD fK fR fC fN fL a1 a2 a3 a4 a5 a6 a7 a8 a9 a10 := by
  unfold wX_advance_89
  rw [nI_clamp (show k < 2 ^ 31 by omega)]
  exact ⟨pk_in k 24 hk, br_c (fun g => nm_r (nI_1 k) (ha g)) (fun g => ⟨pk_in k 24 hk, nm_e (nm_r (nI_1 k) (hb g))⟩)⟩
/-- the search for the least cost: s = least, its column, cameFrom, slack -/
def ft_I16 (e : Nat) (C : Nat → Nat) (i : Nat) (s : Int32 × Int32 × (Nat → Int32) × (Nat → Int32)) : Prop := 1 ≤ i ∧ (∀ j, j ≤ e → s.2.2.1 j = 0) ∧ (∀ j, i ≤ j → j ≤ e → s.2.2.2 j = 268435456) ∧ ((i = 1 ∧ s.1 = 268435456) ∨ ∃ k, 1 ≤ k ∧ k < i ∧ s.2.1 = nI k ∧ s.1 = nI (C k) ∧ ∀ j, 1 ≤ j → j < i → C k ≤ C j)
theorem ft_a16 {post : Int32 → St2 → Prop} {e : Nat} {C : Nat → Nat} {fM fP fD fK fR fN fL : Int32} {a1 a2 a3 a4 a5 a6 a7 a8 a9 a10 : Nat → Int32} (he1 : 1 ≤ e) (he : e ≤ 15) (hC : ∀ j, C j ≤ 100000) (h4 : a4 1 = 0) (h5 : ∀ j, 1 ≤ j → j ≤ e → a5 j = 0) (h6 : ∀ j, j ≤ e → vp_in (a6 j) 6) (h7 : ∀ j, j ≤ e → a7 j = 0) (h8 : ∀ j, j ≤ e → a8 j = 268435456) (h9 : ∀ j, 1 ≤ j → j ≤ e → a9 j = 0)
    (hcost : ∀ (Q : Int32 → Prop) (b7 b8 : Nat → Int32) (j : Nat), 1 ≤ j → j ≤ e → Q (nI (C j)) → wpX_costOf Q (fM, fP, fD, fK, fR, (nI e), fN, fL, a1, a2, a3, a4, a5, a6, b7, b8, a9, a10) (nI 1) (nI j))
    (H : ∀ (k : Nat) (b4 b5 b7 b8 : Nat → Int32), 1 ≤ k → k ≤ e → (∀ j, 1 ≤ j → j ≤ e → C k ≤ C j) → (∀ j, j ≤ e → b7 j = 0) → post (nI k) (fM, fP, fD, fK, fR, (nI e), fN, fL, a1, a2, a3, b4, b5, a6, b7, b8, a9, a10)) :
    ∃ f, wX_advance_16 post 0 (nI 1) fM fP fD fK fR (nI e) fN fL f 268435456 0 1 a1 a2 a3 a4 a5 a6 a7 a8 a9 a10 := by
  refine pk_loop (σ := Int32 × Int32 × (Nat → Int32) × (Nat → Int32)) (fun f i s => wX_advance_16 post 0 (nI 1) fM fP fD fK fR (nI e) fN fL f s.1 s.2.1 (nI i) a1 a2 a3 a4 a5 a6 s.2.2.1 s.2.2.2 a9 a10) (ft_I16 e C) (e + 1) 1 (268435456, 0, a7, a8) (by omega) ⟨Nat.le_refl 1, h7, fun j _ hj => h8 j hj, Or.inl ⟨rfl, rfl⟩⟩ ?_ ?_
  · intro f s hI
    obtain ⟨x3, x4, s7, s8⟩ := s
    obtain ⟨_, i7, _, hk⟩ := hI
    refine pk_lt e (e + 1) (fun _ => ?_) (fun z => absurd z (by omega))
    rcases hk with ⟨z, _⟩ | ⟨k, k1, k2, k3, _, k5⟩
    · omega
    · refine ft_a121 he h6 (fun b4 b5 b8 => ?_)
      have t := H k b4 b5 s7 b8 k1 (by omega) (fun j j1 j2 => k5 j j1 (by omega)) i7
      have k3' : x4 = nI k := k3
      rw [k3']
      exact t
  · intro f i s hi hI hw
    obtain ⟨x3, x4, s7, s8⟩ := s
    obtain ⟨i1, i7, i8, hk⟩ := hI
    dsimp only at i7 i8 hk
    refine pk_lt e i (fun z => absurd z (by omega)) (fun _ => ⟨pk_in i 24 (by omega), ?_⟩)
    refine br_t (by rw [nI_clamp (by omega)]; exact h9 i i1 (by omega)) (hcost _ _ _ i i1 (by omega) ?_)
    refine ⟨pk_in 1 6 (by omega), pk_in i 24 (by omega), nm_r (e' := nI (C i)) ?_ ⟨pk_in i 24 (by omega), ?_⟩⟩
    · rw [nI_clamp (by omega), nI_clamp (by omega), h4, h5 i i1 (by omega), Int32.sub_zero, Int32.sub_zero]
    · dsimp only
      rw [nI_clamp (show i < 2 ^ 31 by omega), i8 i (Nat.le_refl i) (by omega)]
      have hci := hC i
      refine br_f (nI_ge (b := 268435456) (by omega) (by decide)) ⟨pk_in i 24 (by omega), nm_e ⟨pk_in i 24 (by omega), nm_r (e' := upd s7 i 0) rfl ?_⟩⟩
      have n7 : ∀ j, j ≤ e → upd s7 i 0 j = 0 := fun j hj => by
        by_cases ej : j = i
        · rw [ej, pk_us]
        · rw [pk_un ej]; exact i7 j hj
      have n8 : ∀ j, i + 1 ≤ j → j ≤ e → upd s8 i (nI (C i)) j = 268435456 := fun j h1 h2 => by
        rw [pk_un (by omega)]; exact i8 j (by omega) h2
      have hle : ∀ c d : Nat, c ≤ 100000 → d ≤ 100000 → (nI c ≤ nI d ↔ c ≤ d) := fun c d hc hd => nI_leI (by omega) (by omega)
      refine ft_a89 (by omega) (fun g => ?_) (fun g => ?_)
      · refine hw (x3, x4, _, _) ⟨by omega, n7, n8, Or.inr ?_⟩
        rw [pk_us] at g
        rcases hk with ⟨_, z⟩ | ⟨k, k1, k2, k3, k4, k5⟩
        · rw [z] at g
          exact absurd g (nI_ge (b := 268435456) (by omega) (by decide))
        · refine ⟨k, k1, by omega, k3, k4, fun j j1 j2 => ?_⟩
          rw [k4, hle _ _ (hC k) hci] at g
          by_cases ej : j = i
          · rw [ej]; exact g
          · exact k5 j j1 (by omega)
      · refine hw (upd s8 i (nI (C i)) i, nI i, _, _) ⟨by omega, n7, n8, Or.inr ⟨i, i1, by omega, rfl, pk_us, fun j j1 j2 => ?_⟩⟩
        by_cases ej : j = i
        · rw [ej]; exact Nat.le_refl _
        · rw [pk_us] at g
          rcases hk with ⟨z, _⟩ | ⟨k, k1, k2, k3, k4, k5⟩
          · omega
          · rw [k4, hle _ _ (hC k) hci] at g
            have := k5 j j1 (by omega)
            omega
theorem ft_adv {post : Int32 → St2 → Prop} {e : Nat} {C : Nat → Nat} {fM fP fD fK fR fN fL : Int32} {a1 a2 a3 a4 a5 a6 a7 a8 a9 a10 : Nat → Int32} (he1 : 1 ≤ e) (he : e ≤ 15) (hC : ∀ j, C j ≤ 100000) (h4 : a4 1 = 0) (h5 : ∀ j, 1 ≤ j → j ≤ e → a5 j = 0) (h60 : a6 0 = nI 1) (h6 : ∀ j, j ≤ e → vp_in (a6 j) 6) (h7 : ∀ j, j ≤ e → a7 j = 0) (h8 : ∀ j, j ≤ e → a8 j = 268435456) (h9 : ∀ j, 1 ≤ j → j ≤ e → a9 j = 0)
    (hcost : ∀ (Q : Int32 → Prop) (b7 b8 : Nat → Int32) (j : Nat), 1 ≤ j → j ≤ e → Q (nI (C j)) → wpX_costOf Q (fM, fP, fD, fK, fR, (nI e), fN, fL, a1, a2, a3, a4, a5, a6, b7, b8, a9, a10) (nI 1) (nI j))
    (H : ∀ (k : Nat) (b4 b5 b7 b8 : Nat → Int32), 1 ≤ k → k ≤ e → (∀ j, 1 ≤ j → j ≤ e → C k ≤ C j) → (∀ j, j ≤ e → b7 j = 0) → post (nI k) (fM, fP, fD, fK, fR, (nI e), fN, fL, a1, a2, a3, b4, b5, a6, b7, b8, a9, a10)) :
    wpX_advance post (fM, fP, fD, fK, fR, (nI e), fN, fL, a1, a2, a3, a4, a5, a6, a7, a8, a9, a10) 0 :=
  ⟨pk_in 0 24 (by omega), nm_r (e' := nI 1) (by rw [sb_cl0]; exact h60) (ft_a16 he1 he hC h4 h5 h6 h7 h8 h9 hcost H)⟩
theorem ft_i89 {post : St2 → Prop} {k : Nat} {fM fP fD fK fR fC fN fL : Int32} {a1 a2 a3 a4 a5 a6 a7 a8 a9 a10 : Nat → Int32} (h1 : 1 ≤ k) (hk : k < 24) (h7 : a7 k = 0) (h6 : a6 0 = nI 1) (H : post (fM, fP, fD, fK, fR, fC, fN, fL, a1, a2, a3, a4, a5, (upd a6 k (nI 1)), a7, a8, a9, a10)) : ∃ f, wX_insert_89 post fM fP fD fK fR fC fN fL f (nI k) 0 a1 a2 a3 a4 a5 a6 a7 a8 a9 a10 := by
  refine ⟨0 + 1 + 1, br_f (by decide) (br_f (nI_ne0 (by omega) (by omega)) ⟨pk_in k 24 hk, nm_r (e' := 0) (by rw [nI_clamp (by omega)]; exact h7) ⟨pk_in 0 24 (by omega), pk_in k 24 hk, nm_r (e' := upd a6 k (nI 1)) ?_ (nm_r (e' := 1) (by decide) (br_f (by decide) (br_t rfl H)))⟩⟩)⟩
  rw [nI_clamp (by omega), sb_cl0, h6]
  rfl
theorem ft_i50 {post : St2 → Prop} {e : Nat} {C : Nat → Nat} {fM fP fD fK fR fN fL : Int32} {a1 a2 a3 a4 a5 a6 a7 a8 a9 a10 : Nat → Int32} (he1 : 1 ≤ e) (he : e ≤ 15) (hC : ∀ j, C j ≤ 100000) (h4 : a4 1 = 0) (h5 : ∀ j, 1 ≤ j → j ≤ e → a5 j = 0) (h60 : a6 0 = nI 1) (h6 : ∀ j, 1 ≤ j → j ≤ e → a6 j = 0) (h7 : ∀ j, j ≤ e → a7 j = 0) (h8 : ∀ j, j ≤ e → a8 j = 268435456) (h9 : ∀ j, j ≤ e → a9 j = 0)
    (hcost : ∀ (Q : Int32 → Prop) (b7 b8 b9 : Nat → Int32) (j : Nat), 1 ≤ j → j ≤ e → Q (nI (C j)) → wpX_costOf Q (fM, fP, fD, fK, fR, (nI e), fN, fL, a1, a2, a3, a4, a5, a6, b7, b8, b9, a10) (nI 1) (nI j))
    (H : ∀ (k : Nat) (b4 b5 b6 b7 b8 b9 : Nat → Int32), 1 ≤ k → k ≤ e → (∀ j, 1 ≤ j → j ≤ e → C k ≤ C j) → b6 k = nI 1 → (∀ j, 1 ≤ j → j ≤ e → j ≠ k → b6 j = 0) → post (fM, fP, fD, fK, fR, (nI e), fN, fL, a1, a2, a3, b4, b5, b6, b7, b8, b9, a10)) :
    ∃ f, wX_insert_50 post f 0 0 fM fP fD fK fR (nI e) fN fL a1 a2 a3 a4 a5 a6 a7 a8 a9 a10 := by
  refine ⟨0 + 1 + 1, br_f (by decide) (br_t rfl ?_)⟩
  unfold wX_insert_68
  refine ⟨pk_in 0 24 (by omega), nm_r (e' := upd a9 0 1) rfl ?_⟩
  refine ft_adv he1 he hC h4 h5 h60 (fun j hj => ?_) h7 h8 (fun j j1 j2 => by rw [pk_un (by omega)]; exact h9 j j2) (fun Q b7 b8 j j1 j2 hQ => hcost Q b7 b8 _ j j1 j2 hQ) (fun k b4 b5 b7 b8 k1 k2 hm i7 => ?_)
  · by_cases ej : j = 0
    · rw [ej, h60]; exact pk_in 1 6 (by omega)
    · rw [h6 j (by omega) hj]; exact pk_in 0 6 (by omega)
  · refine nm_r (e' := 1) (by decide) (br_f (by decide) (br_f (by decide) ⟨pk_in k 24 (by omega), br_t (by rw [nI_clamp (by omega)]; exact h6 k k1 k2) (ft_i89 k1 (by omega) (i7 k k2) h60 ?_)⟩))
    exact H k _ _ _ _ _ _ k1 k2 hm pk_us (fun j j1 j2 hj => by rw [pk_un hj]; exact h6 j j1 j2)
theorem ft_ins {post : St2 → Prop} {e : Nat} {C : Nat → Nat} {fM fP fD fK fR fN fL : Int32} {a1 a2 a3 a4 a5 a6 a7 a8 a9 a10 : Nat → Int32} (he1 : 1 ≤ e) (he : e ≤ 15) (hC : ∀ j, C j ≤ 100000) (h4 : a4 1 = 0) (h5 : ∀ j, 1 ≤ j → j ≤ e → a5 j = 0) (h6 : ∀ j, 1 ≤ j → j ≤ e → a6 j = 0)
    (hcost : ∀ (Q : Int32 → Prop) (b6 b7 b8 b9 : Nat → Int32) (j : Nat), 1 ≤ j → j ≤ e → Q (nI (C j)) → wpX_costOf Q (fM, fP, fD, fK, fR, (nI e), fN, fL, a1, a2, a3, a4, a5, b6, b7, b8, b9, a10) (nI 1) (nI j))
    (H : ∀ (k : Nat) (b4 b5 b6 b7 b8 b9 : Nat → Int32), 1 ≤ k → k ≤ e → (∀ j, 1 ≤ j → j ≤ e → C k ≤ C j) → b6 k = nI 1 → (∀ j, 1 ≤ j → j ≤ e → j ≠ k → b6 j = 0) → post (fM, fP, fD, fK, fR, (nI e), fN, fL, a1, a2, a3, b4, b5, b6, b7, b8, b9, a10)) :
    wpX_insert post (fM, fP, fD, fK, fR, (nI e), fN, fL, a1, a2, a3, a4, a5, a6, a7, a8, a9, a10) 1 := by
  refine nm_r (e' := upd a6 0 (nI 1)) rfl ?_
  refine pk_loop (σ := (Nat → Int32) × (Nat → Int32) × (Nat → Int32)) (fun f i s => wX_insert_10 post fM fP fD fK fR (nI e) fN fL f (nI i) a1 a2 a3 a4 a5 (upd a6 0 (nI 1)) s.1 s.2.1 s.2.2 a10) (fun i s => (∀ j, j < i → s.1 j = 0) ∧ (∀ j, j < i → s.2.1 j = 268435456) ∧ (∀ j, j < i → s.2.2 j = 0)) (e + 1) 0 (a7, a8, a9) (by omega) ⟨fun j hj => absurd hj (by omega), fun j hj => absurd hj (by omega), fun j hj => absurd hj (by omega)⟩ ?_ ?_
  · intro f s hI
    refine pk_lt e (e + 1) (fun _ => ?_) (fun z => absurd z (by omega))
    exact ft_i50 he1 he hC h4 h5 pk_us (fun j j1 j2 => by rw [pk_un (by omega)]; exact h6 j j1 j2) (fun j hj => hI.1 j (by omega)) (fun j hj => hI.2.1 j (by omega)) (fun j hj => hI.2.2 j (by omega)) (fun Q b7 b8 b9 j j1 j2 hQ => hcost Q _ b7 b8 b9 j j1 j2 hQ) H
  · intro f i s hi hI hw
    refine pk_lt e i (fun z => absurd z (by omega)) (fun _ => ⟨pk_in i 24 (by omega), nm_r (e' := upd s.2.1 i 268435456) (by rw [nI_clamp (by omega)]) ⟨pk_in i 24 (by omega), nm_r (e' := upd s.2.2 i 0) (by rw [nI_clamp (by omega)]) ⟨pk_in i 24 (by omega), nm_r (e' := upd s.1 i 0) (by rw [nI_clamp (by omega)]) (nm_r (nI_1 i) (hw (upd s.1 i 0, upd s.2.1 i 268435456, upd s.2.2 i 0) ⟨ft_fill hI.1, ft_fill hI.2.1, ft_fill hI.2.2⟩))⟩⟩⟩)
theorem ft_m151 {post : Int32 → St2 → Prop} {e k v : Nat} {fM fP fD fK fR fN fL : Int32} {a1 a2 a3 a4 a5 a6 a7 a8 a9 a10 : Nat → Int32} (he : e ≤ 15) (h1 : 1 ≤ k) (hk : k ≤ e → a6 k = nI 1) (h6 : ∀ j, 1 ≤ j → j ≤ e → j ≠ k → a6 j = 0)
    (hcost : k ≤ e → ∀ (Q : Int32 → Prop), Q (nI v) → wpX_costOf Q (fM, fP, fD, fK, fR, (nI e), fN, fL, a1, a2, a3, a4, a5, a6, a7, a8, a9, a10) (nI 1) (nI k))
    (H : post (nI (if k ≤ e then v else 0)) (fM, fP, fD, fK, fR, (nI e), fN, fL, a1, a2, a3, a4, a5, a6, a7, a8, a9, a10)) : ∃ f, wX_match_151 post fM fP fD fK fR (nI e) fN fL a1 a2 a3 a4 a5 a6 a7 a8 a9 a10 f 0 1 := by
  refine pk_loop (σ := Int32) (fun f i s => wX_match_151 post fM fP fD fK fR (nI e) fN fL a1 a2 a3 a4 a5 a6 a7 a8 a9 a10 f s (nI i)) (fun i s => 1 ≤ i ∧ s = nI (if k < i then v else 0)) (e + 1) 1 0 (by omega) ⟨Nat.le_refl 1, by rw [if_neg (by omega)]; rfl⟩ ?_ ?_
  · intro f s hI
    refine pk_lt e (e + 1) (fun _ => ?_) (fun z => absurd z (by omega))
    rw [hI.2]
    by_cases z : k ≤ e
    · rw [if_pos (show k < e + 1 by omega)]
      rw [if_pos z] at H
      exact H
    · rw [if_neg (show ¬ k < e + 1 by omega)]
      rw [if_neg z] at H
      exact H
  · intro f i s hi hI hw
    obtain ⟨i1, rfl⟩ := hI
    refine pk_lt e i (fun z => absurd z (by omega)) (fun _ => ⟨pk_in i 24 (by omega), ?_⟩)
    rw [nI_clamp (show i < 2 ^ 31 by omega)]
    by_cases ej : i = k
    · subst ej
      rw [hk (by omega)]
      refine br_f (nI_nle (by omega) (by omega)) ⟨pk_in i 24 (by omega), hcost (by omega) _ (nm_r (e' := nI v) ?_ (nm_r (nI_1 i) (hw _ ⟨by omega, ?_⟩)))⟩
      · rw [if_neg (by omega), nI_0, Int32.zero_add]
      · rw [if_pos (by omega)]
    · rw [h6 i i1 (by omega) ej]
      refine br_t (by decide) (nm_r (nI_1 i) (hw _ ⟨by omega, ?_⟩))
      by_cases z : k < i
      · rw [if_pos z, if_pos (by omega)]
      · rw [if_neg z, if_neg (by omega)]
theorem ft_m75 {post : Int32 → St2 → Prop} {e q : Nat} {fM fP fD fK fN fL : Int32} {a1 a2 a3 a4 a5 a6 a7 a8 a9 a10 : Nat → Int32} (he : e ≤ 15) (hq : q ≤ 1)
    (H : ∀ b4 b5 b6 : Nat → Int32, (∀ j, j ≤ q → b4 j = 0) → (∀ j, j ≤ e → b5 j = 0 ∧ b6 j = 0) → ∃ f, wX_match_128 post f 1 fM fP fD fK (nI q) (nI e) fN fL a1 a2 a3 b4 b5 b6 a7 a8 a9 a10) : ∃ f, wX_match_75 post fM fP fD fK (nI q) (nI e) fN fL f 0 a1 a2 a3 a4 a5 a6 a7 a8 a9 a10 := by
  refine pk_loop (σ := Nat → Int32) (fun f i s => wX_match_75 post fM fP fD fK (nI q) (nI e) fN fL f (nI i) a1 a2 a3 s a5 a6 a7 a8 a9 a10) (fun i s => ∀ j, j < i → s j = 0) (q + 1) 0 a4 (by omega) (fun j hj => absurd hj (by omega)) ?_ ?_
  · intro f b4 h4
    refine pk_lt q (q + 1) (fun _ => ?_) (fun z => absurd z (by omega))
    refine pk_loop (σ := (Nat → Int32) × (Nat → Int32)) (fun f i s => wX_match_98 post fM fP fD fK (nI q) (nI e) fN fL f (nI i) a1 a2 a3 b4 s.1 s.2 a7 a8 a9 a10) (fun i s => (∀ j, j < i → s.1 j = 0) ∧ (∀ j, j < i → s.2 j = 0)) (e + 1) 0 (a5, a6) (by omega) ⟨fun j hj => absurd hj (by omega), fun j hj => absurd hj (by omega)⟩ ?_ ?_
    · intro f s hs
      exact pk_lt e (e + 1) (fun _ => H b4 s.1 s.2 (fun j hj => h4 j (by omega)) (fun j hj => ⟨hs.1 j (by omega), hs.2 j (by omega)⟩)) (fun z => absurd z (by omega))
    · intro f i s hi hs hw
      refine pk_lt e i (fun z => absurd z (by omega)) (fun _ => ⟨pk_in i 24 (by omega), nm_r (e' := upd s.1 i 0) (by rw [nI_clamp (by omega)]) ⟨pk_in i 24 (by omega), nm_r (e' := upd s.2 i 0) (by rw [nI_clamp (by omega)]) (nm_r (nI_1 i) (hw (upd s.1 i 0, upd s.2 i 0) ⟨ft_fill hs.1, ft_fill hs.2⟩))⟩⟩)
  · intro f i s hi hs hw
    refine pk_lt q i (fun z => absurd z (by omega)) (fun _ => ⟨pk_in i 6 (by omega), nm_r (e' := upd s i 0) (by rw [nI_clamp (by omega)]) (nm_r (nI_1 i) (hw _ (ft_fill hs)))⟩)
theorem ft_m33 {post : Int32 → St2 → Prop} {g : Nat} {fM fP fD fK fC fN fL : Int32} {a1 a2 a3 a4 a5 a6 a7 a8 a9 a10 : Nat → Int32} (hg : g ≤ 1) (H : ∀ b3 : Nat → Int32, (g = 1 → b3 1 = nI 0) → ∃ f, wX_match_75 post fM fP fD fK (nI g) fC fN fL f 0 a1 a2 b3 a4 a5 a6 a7 a8 a9 a10) : ∃ f, wX_match_33 post (nI g) fM fP fD fK fC fN fL f 0 0 a1 a2 a3 a4 a5 a6 a7 a8 a9 a10 := by
  have hg' : g = 0 ∨ g = 1 := by omega
  rcases hg' with rfl | rfl
  · exact ⟨0 + 1 + 1 + 1 + 1 + 1 + 1, br_f (by decide) (br_t (by decide) (nm_r (e' := 1) (by decide) (br_f (by decide) (br_t (by decide) (nm_r (e' := 2) (by decide) (br_f (by decide) (br_t (by decide) (nm_r (e' := 3) (by decide) (br_f (by decide) (br_t (by decide) (nm_r (e' := 4) (by decide) (br_f (by decide) (br_t (by decide) (nm_r (e' := 5) (by decide) (br_t (by decide) (H a3 (fun z => absurd z (by decide))))))))))))))))))⟩
  · exact ⟨0 + 1 + 1 + 1 + 1 + 1 + 1, br_f (by decide) (br_f (by decide) (nm_r (e' := nI 1) (by decide) ⟨pk_in 1 6 (by omega), nm_r (e' := upd a3 1 (nI 0)) rfl (nm_r (e' := 1) (by decide) (br_f (by decide) (br_t (by decide) (nm_r (e' := 2) (by decide) (br_f (by decide) (br_t (by decide) (nm_r (e' := 3) (by decide) (br_f (by decide) (br_t (by decide) (nm_r (e' := 4) (by decide) (br_f (by decide) (br_t (by decide) (nm_r (e' := 5) (by decide) (br_t (by decide) (H (upd a3 1 (nI 0)) (fun _ => pk_us))))))))))))))))⟩))⟩
theorem ft_mt {post : Int32 → St2 → Prop} {n g w : Nat} {T : Nat → Nat} {fP fR fC fN fL : Int32} {a1 a2 a3 a4 a5 a6 a7 a8 a9 a10 : Nat → Int32} (hn1 : 1 ≤ n) (hn : n ≤ 3) (hg : g ≤ 1) (hw : w < 8) (h2 : a2 0 = nI w) (hT : ∀ m, m < 3 → a1 m = nI (T m) ∧ T m ≤ 15)
    (H : ∀ (k : Nat) (cR cC : Int32) (b3 b4 b5 b6 b7 b8 b9 : Nat → Int32), ft_K n g w T k → post (nI k) ((nI n), fP, (-1), (-1), cR, cC, fN, fL, a1, a2, b3, b4, b5, b6, b7, b8, b9, a10)) : wpX_match post ((nI n), fP, (-1), (-1), fR, fC, fN, fL, a1, a2, a3, a4, a5, a6, a7, a8, a9, a10) (nI g) := by
  have e5 : nI n * 5 = nI (5 * n) := by
    rw [Nat.mul_comm, ← pk_mul]
    rfl
  refine br_t (by decide) (nm_r e5 (ft_m33 hg (fun b3 h3 => ft_m75 (by omega) hg (fun b4 b5 b6 h4 h56 => ?_))))
  have hC : ∀ j, min (ft_c w T j) 100000 ≤ 100000 := fun j => by omega
  have hCC : ∀ j, 1 ≤ j → j ≤ 5 * n → min (ft_c w T j) 100000 = ft_c w T j := fun j j1 j2 => Nat.min_eq_left (ft_c_le (hT _ (by omega)).2)
  have hg' : g = 0 ∨ g = 1 := by omega
  rcases hg' with rfl | rfl
  · refine ⟨0 + 1, br_t (by decide) (ft_m151 (k := 5 * n + 1) (v := 0) (by omega) (by omega) (fun z => absurd z (by omega)) (fun j j1 j2 _ => (h56 j j2).2) (fun z => absurd z (by omega)) ?_)⟩
    rw [if_neg (by omega)]
    exact H 0 _ _ _ _ _ _ _ _ _ (Or.inl ⟨rfl, rfl⟩)
  · refine ⟨0 + 1 + 1, br_f (by decide) (ft_ins (C := fun j => min (ft_c w T j) 100000) (by omega) (by omega) hC (h4 1 (Nat.le_refl 1)) (fun j j1 j2 => (h56 j j2).1) (fun j j1 j2 => (h56 j j2).2) ?_ ?_)⟩
    · intro Q b6 b7 b8 b9 j j1 j2 hQ
      rw [hCC j j1 j2] at hQ
      exact ft_cost hn j1 j2 (h3 rfl) h2 hw hT hQ
    · intro k b4 b5 b6 b7 b8 b9 k1 k2 hm hk ho
      refine nm_r (e' := 2) (by decide) (br_t (by decide) (ft_m151 (k := k) (v := ft_c w T k) (by omega) k1 (fun _ => hk) ho ?_ ?_))
      · intro _ Q hQ
        exact ft_cost hn k1 k2 (h3 rfl) h2 hw hT hQ
      · rw [if_pos k2]
        refine H _ _ _ _ _ _ _ _ _ _ (Or.inr ⟨rfl, k, k1, k2, rfl, fun j j1 j2 => ?_⟩)
        have t := hm j j1 j2
        rw [hCC j j1 j2, hCC k k1 k2] at t
        exact t
theorem ft_tot {post : Int32 → St2 → Prop} {n g w : Nat} {T : Nat → Nat} {fP fR fC fN fL : Int32} {a1 a2 a3 a4 a5 a6 a7 a8 a9 a10 : Nat → Int32} (hn1 : 1 ≤ n) (hn : n ≤ 3) (hg : g ≤ 1) (hw : w < 8) (h2 : a2 0 = nI w) (hT : ∀ m, m < 3 → a1 m = nI (T m) ∧ T m ≤ 15)
    (H : ∀ (r cR cC : Int32) (b3 b4 b5 b6 b7 b8 b9 : Nat → Int32), ft_R n g w T r → post r ((nI n), fP, (-1), (-1), cR, cC, fN, fL, a1, a2, b3, b4, b5, b6, b7, b8, b9, a10)) : wpX_totalOf post ((nI n), fP, (-1), (-1), fR, fC, fN, fL, a1, a2, a3, a4, a5, a6, a7, a8, a9, a10) (nI g) := by
  refine ft_mt (fR := fR) (fC := fC) hn1 hn hg hw h2 hT (fun k cR cC b3 b4 b5 b6 b7 b8 b9 hk => ?_)
  obtain ⟨k1, hR⟩ := ft_KR hn (fun m hm => (hT m hm).2) hk
  refine pk_lt k 100000 (fun z => ?_) (fun z => ?_)
  · rw [if_pos z] at hR
    rw [ft_sh3 z]
    exact H _ _ _ _ _ _ _ _ _ _ hR
  · rw [if_neg (by omega)] at hR
    exact H _ _ _ _ _ _ _ _ _ _ hR
theorem ft_a121_2 {post : Int32 → St2 → Prop} {x3 x4 : Int32} {e : Nat} {fM fP fD fK fR fN fL : Int32} {a1 a2 a3 a4 a5 a6 a7 a8 a9 a10 : Nat → Int32} (he : e ≤ 15) (h6 : ∀ j, j ≤ e → vp_in (a6 j) 6) (H : ∀ b4 b5 b8 : Nat → Int32, post x4 (fM, fP, fD, fK, fR, (nI e), fN, fL, a1, a2, a3, b4, b5, a6, a7, b8, a9, a10)) : ∃ f, wX_advance_2_121 post x3 x4 fM fP fD fK fR (nI e) fN fL f 0 a1 a2 a3 a4 a5 a6 a7 a8 a9 a10 :=
  pk_loop (σ := (Nat → Int32) × (Nat → Int32) × (Nat → Int32)) (fun f i s => wX_advance_2_121 post x3 x4 fM fP fD fK fR (nI e) fN fL f (nI i) a1 a2 a3 s.1 s.2.1 a6 a7 s.2.2 a9 a10) (fun _ _ => True) (e + 1) 0 (a4, a5, a8) (by omega) trivial
    (fun f s _ => pk_lt e (e + 1) (fun _ => H s.1 s.2.1 s.2.2) (fun z => absurd z (by omega)))
    (fun f i s hi _ hw => by
      have g6 : vp_in (a6 (nI i).toNatClampNeg) 6 := by rw [nI_clamp (by omega)]; exact h6 i (by omega)
      exact pk_lt e i (fun z => absurd z (by omega)) (fun z => ⟨pk_in i 24 (by omega), br_c
        (fun g => ⟨pk_in i 24 (by omega), pk_in i 24 (by omega), nm_e (nm_r (nI_1 i) (hw (s.1, s.2.1, upd s.2.2 (nI i).toNatClampNeg (s.2.2 (nI i).toNatClampNeg - x3)) trivial))⟩)
        (fun g => ⟨pk_in i 24 (by omega), g6, g6, nm_e ⟨pk_in i 24 (by omega), pk_in i 24 (by omega), nm_e (nm_r (nI_1 i) (hw (_, _, s.2.2) trivial))⟩⟩)⟩))
theorem ft_a89_2 {post : Int32 → St2 → Prop} {J : Int32 → Int32 → Int32 → (Nat → Int32) → (Nat → Int32) → (Nat → Int32) → (Nat → Int32) → (Nat → Int32) → (Nat → Int32) → (Nat → Int32) → (Nat → Int32) → (Nat → Int32) → (Nat → Int32) → Prop} {x1 x2 x3 x4 : Int32} {k : Nat} {fM fP fD fK fR fC fN fL : Int32} {a1 a2 a3 a4 a5 a6 a7 a8 a9 a10 : Nat → Int32} (hk : k < 24) (ha : x3 ≤ a8 k → J x3 x4 (nI (k + 1)) a1 a2 a3 a4 a5 a6 a7 a8 a9 a10) (hb : ¬ x3 ≤ a8 k → J (a8 k) (nI k) (nI (k + 1)) a1 a2 a3 a4 a5 a6 a7 a8 a9 a10) : wX_advance_2_89 post J x1 x2 x3 x4 (nI k) fM fP fD fK fR fC fN fL a1 a2 a3 a4 a5 a6 a7 a8 a9 a10 := by
  unfold wX_advance_2_89
  rw [nI_clamp (show k < 2 ^ 31 by omega)]
  exact ⟨pk_in k 24 hk, br_c (fun g => nm_r (nI_1 k) (ha g)) (fun g => ⟨pk_in k 24 hk, nm_e (nm_r (nI_1 k) (hb g))⟩)⟩
/-- the search for the least cost: s = least, its column, cameFrom, slack -/
def ft_I16_2 (e : Nat) (C : Nat → Nat) (i : Nat) (s : Int32 × Int32 × (Nat → Int32) × (Nat → Int32)) : Prop := 1 ≤ i ∧ (∀ j, j ≤ e → s.2.2.1 j = 0) ∧ (∀ j, i ≤ j → j ≤ e → s.2.2.2 j = 268435456) ∧ ((i = 1 ∧ s.1 = 268435456) ∨ ∃ k, 1 ≤ k ∧ k < i ∧ s.2.1 = nI k ∧ s.1 = nI (C k) ∧ ∀ j, 1 ≤ j → j < i → C k ≤ C j)
theorem ft_a16_2 {post : Int32 → St2 → Prop} {e : Nat} {C : Nat → Nat} {fM fP fD fK fR fN fL : Int32} {a1 a2 a3 a4 a5 a6 a7 a8 a9 a10 : Nat → Int32} (he1 : 1 ≤ e) (he : e ≤ 15) (hC : ∀ j, C j ≤ 100000) (h4 : a4 1 = 0) (h5 : ∀ j, 1 ≤ j → j ≤ e → a5 j = 0) (h6 : ∀ j, j ≤ e → vp_in (a6 j) 6) (h7 : ∀ j, j ≤ e → a7 j = 0) (h8 : ∀ j, j ≤ e → a8 j = 268435456) (h9 : ∀ j, 1 ≤ j → j ≤ e → a9 j = 0)
    (hcost : ∀ (Q : Int32 → Prop) (b7 b8 : Nat → Int32) (j : Nat), 1 ≤ j → j ≤ e → Q (nI (C j)) → wpX_costOf Q (fM, fP, fD, fK, fR, (nI e), fN, fL, a1, a2, a3, a4, a5, a6, b7, b8, a9, a10) (nI 1) (nI j))
    (H : ∀ (k : Nat) (b4 b5 b7 b8 : Nat → Int32), 1 ≤ k → k ≤ e → (∀ j, 1 ≤ j → j ≤ e → C k ≤ C j) → (∀ j, j ≤ e → b7 j = 0) → post (nI k) (fM, fP, fD, fK, fR, (nI e), fN, fL, a1, a2, a3, b4, b5, a6, b7, b8, a9, a10)) :
    ∃ f, wX_advance_2_16 post 0 (nI 1) fM fP fD fK fR (nI e) fN fL f 268435456 0 1 a1 a2 a3 a4 a5 a6 a7 a8 a9 a10 := by
  refine pk_loop (σ := Int32 × Int32 × (Nat → Int32) × (Nat → Int32)) (fun f i s => wX_advance_2_16 post 0 (nI 1) fM fP fD fK fR (nI e) fN fL f s.1 s.2.1 (nI i) a1 a2 a3 a4 a5 a6 s.2.2.1 s.2.2.2 a9 a10) (ft_I16_2 e C) (e + 1) 1 (268435456, 0, a7, a8) (by omega) ⟨Nat.le_refl 1, h7, fun j _ hj => h8 j hj, Or.inl ⟨rfl, rfl⟩⟩ ?_ ?_
  · intro f s hI
    obtain ⟨x3, x4, s7, s8⟩ := s
    obtain ⟨_, i7, _, hk⟩ := hI
    refine pk_lt e (e + 1) (fun _ => ?_) (fun z => absurd z (by omega))
    rcases hk with ⟨z, _⟩ | ⟨k, k1, k2, k3, _, k5⟩
    · omega
    · refine ft_a121_2 he h6 (fun b4 b5 b8 => ?_)
      have t := H k b4 b5 s7 b8 k1 (by omega) (fun j j1 j2 => k5 j j1 (by omega)) i7
      have k3' : x4 = nI k := k3
      rw [k3']
      exact t
  · intro f i s hi hI hw
    obtain ⟨x3, x4, s7, s8⟩ := s
    obtain ⟨i1, i7, i8, hk⟩ := hI
    dsimp only at i7 i8 hk
    refine pk_lt e i (fun z => absurd z (by omega)) (fun _ => ⟨pk_in i 24 (by omega), ?_⟩)
    refine br_t (by rw [nI_clamp (by omega)]; exact h9 i i1 (by omega)) (hcost _ _ _ i i1 (by omega) ?_)
    refine ⟨pk_in 1 6 (by omega), pk_in i 24 (by omega), nm_r (e' := nI (C i)) ?_ ⟨pk_in i 24 (by omega), ?_⟩⟩
    · rw [nI_clamp (by omega), nI_clamp (by omega), h4, h5 i i1 (by omega), Int32.sub_zero, Int32.sub_zero]
    · dsimp only
      rw [nI_clamp (show i < 2 ^ 31 by omega), i8 i (Nat.le_refl i) (by omega)]
      have hci := hC i
      refine br_f (nI_ge (b := 268435456) (by omega) (by decide)) ⟨pk_in i 24 (by omega), nm_e ⟨pk_in i 24 (by omega), nm_r (e' := upd s7 i 0) rfl ?_⟩⟩
      have n7 : ∀ j, j ≤ e → upd s7 i 0 j = 0 := fun j hj => by
        by_cases ej : j = i
        · rw [ej, pk_us]
        · rw [pk_un ej]; exact i7 j hj
      have n8 : ∀ j, i + 1 ≤ j → j ≤ e → upd s8 i (nI (C i)) j = 268435456 := fun j h1 h2 => by
        rw [pk_un (by omega)]; exact i8 j (by omega) h2
      have hle : ∀ c d : Nat, c ≤ 100000 → d ≤ 100000 → (nI c ≤ nI d ↔ c ≤ d) := fun c d hc hd => nI_leI (by omega) (by omega)
      refine ft_a89_2 (by omega) (fun g => ?_) (fun g => ?_)
      · refine hw (x3, x4, _, _) ⟨by omega, n7, n8, Or.inr ?_⟩
        rw [pk_us] at g
        rcases hk with ⟨_, z⟩ | ⟨k, k1, k2, k3, k4, k5⟩
        · rw [z] at g
          exact absurd g (nI_ge (b := 268435456) (by omega) (by decide))
        · refine ⟨k, k1, by omega, k3, k4, fun j j1 j2 => ?_⟩
          rw [k4, hle _ _ (hC k) hci] at g
          by_cases ej : j = i
          · rw [ej]; exact g
          · exact k5 j j1 (by omega)
      · refine hw (upd s8 i (nI (C i)) i, nI i, _, _) ⟨by omega, n7, n8, Or.inr ⟨i, i1, by omega, rfl, pk_us, fun j j1 j2 => ?_⟩⟩
        by_cases ej : j = i
        · rw [ej]; exact Nat.le_refl _
        · rw [pk_us] at g
          rcases hk with ⟨z, _⟩ | ⟨k, k1, k2, k3, k4, k5⟩
          · omega
          · rw [k4, hle _ _ (hC k) hci] at g
            have := k5 j j1 (by omega)
            omega
theorem ft_adv_2 {post : Int32 → St2 → Prop} {e : Nat} {C : Nat → Nat} {fM fP fD fK fR fN fL : Int32} {a1 a2 a3 a4 a5 a6 a7 a8 a9 a10 : Nat → Int32} (he1 : 1 ≤ e) (he : e ≤ 15) (hC : ∀ j, C j ≤ 100000) (h4 : a4 1 = 0) (h5 : ∀ j, 1 ≤ j → j ≤ e → a5 j = 0) (h60 : a6 0 = nI 1) (h6 : ∀ j, j ≤ e → vp_in (a6 j) 6) (h7 : ∀ j, j ≤ e → a7 j = 0) (h8 : ∀ j, j ≤ e → a8 j = 268435456) (h9 : ∀ j, 1 ≤ j → j ≤ e → a9 j = 0)
    (hcost : ∀ (Q : Int32 → Prop) (b7 b8 : Nat → Int32) (j : Nat), 1 ≤ j → j ≤ e → Q (nI (C j)) → wpX_costOf Q (fM, fP, fD, fK, fR, (nI e), fN, fL, a1, a2, a3, a4, a5, a6, b7, b8, a9, a10) (nI 1) (nI j))
    (H : ∀ (k : Nat) (b4 b5 b7 b8 : Nat → Int32), 1 ≤ k → k ≤ e → (∀ j, 1 ≤ j → j ≤ e → C k ≤ C j) → (∀ j, j ≤ e → b7 j = 0) → post (nI k) (fM, fP, fD, fK, fR, (nI e), fN, fL, a1, a2, a3, b4, b5, a6, b7, b8, a9, a10)) :
    wpX_advance_2 post (fM, fP, fD, fK, fR, (nI e), fN, fL, a1, a2, a3, a4, a5, a6, a7, a8, a9, a10) 0 :=
  ⟨pk_in 0 24 (by omega), nm_r (e' := nI 1) (by rw [sb_cl0]; exact h60) (ft_a16_2 he1 he hC h4 h5 h6 h7 h8 h9 hcost H)⟩
theorem ft_i89_2 {post : St2 → Prop} {k : Nat} {fM fP fD fK fR fC fN fL : Int32} {a1 a2 a3 a4 a5 a6 a7 a8 a9 a10 : Nat → Int32} (h1 : 1 ≤ k) (hk : k < 24) (h7 : a7 k = 0) (h6 : a6 0 = nI 1) (H : post (fM, fP, fD, fK, fR, fC, fN, fL, a1, a2, a3, a4, a5, (upd a6 k (nI 1)), a7, a8, a9, a10)) : ∃ f, wX_insert_2_89 post fM fP fD fK fR fC fN fL f (nI k) 0 a1 a2 a3 a4 a5 a6 a7 a8 a9 a10 := by
  refine ⟨0 + 1 + 1, br_f (by decide) (br_f (nI_ne0 (by omega) (by omega)) ⟨pk_in k 24 hk, nm_r (e' := 0) (by rw [nI_clamp (by omega)]; exact h7) ⟨pk_in 0 24 (by omega), pk_in k 24 hk, nm_r (e' := upd a6 k (nI 1)) ?_ (nm_r (e' := 1) (by decide) (br_f (by decide) (br_t rfl H)))⟩⟩)⟩
  rw [nI_clamp (by omega), sb_cl0, h6]
  rfl
theorem ft_i50_2 {post : St2 → Prop} {e : Nat} {C : Nat → Nat} {fM fP fD fK fR fN fL : Int32} {a1 a2 a3 a4 a5 a6 a7 a8 a9 a10 : Nat → Int32} (he1 : 1 ≤ e) (he : e ≤ 15) (hC : ∀ j, C j ≤ 100000) (h4 : a4 1 = 0) (h5 : ∀ j, 1 ≤ j → j ≤ e → a5 j = 0) (h60 : a6 0 = nI 1) (h6 : ∀ j, 1 ≤ j → j ≤ e → a6 j = 0) (h7 : ∀ j, j ≤ e → a7 j = 0) (h8 : ∀ j, j ≤ e → a8 j = 268435456) (h9 : ∀ j, j ≤ e → a9 j = 0)
    (hcost : ∀ (Q : Int32 → Prop) (b7 b8 b9 : Nat → Int32) (j : Nat), 1 ≤ j → j ≤ e → Q (nI (C j)) → wpX_costOf Q (fM, fP, fD, fK, fR, (nI e), fN, fL, a1, a2, a3, a4, a5, a6, b7, b8, b9, a10) (nI 1) (nI j))
    (H : ∀ (k : Nat) (b4 b5 b6 b7 b8 b9 : Nat → Int32), 1 ≤ k → k ≤ e → (∀ j, 1 ≤ j → j ≤ e → C k ≤ C j) → b6 k = nI 1 → (∀ j, 1 ≤ j → j ≤ e → j ≠ k → b6 j = 0) → post (fM, fP, fD, fK, fR, (nI e), fN, fL, a1, a2, a3, b4, b5, b6, b7, b8, b9, a10)) :
    ∃ f, wX_insert_2_50 post f 0 0 fM fP fD fK fR (nI e) fN fL a1 a2 a3 a4 a5 a6 a7 a8 a9 a10 := by
  refine ⟨0 + 1 + 1, br_f (by decide) (br_t rfl ?_)⟩
  unfold wX_insert_2_68
  refine ⟨pk_in 0 24 (by omega), nm_r (e' := upd a9 0 1) rfl ?_⟩
  refine ft_adv_2 he1 he hC h4 h5 h60 (fun j hj => ?_) h7 h8 (fun j j1 j2 => by rw [pk_un (by omega)]; exact h9 j j2) (fun Q b7 b8 j j1 j2 hQ => hcost Q b7 b8 _ j j1 j2 hQ) (fun k b4 b5 b7 b8 k1 k2 hm i7 => ?_)
  · by_cases ej : j = 0
    · rw [ej, h60]; exact pk_in 1 6 (by omega)
    · rw [h6 j (by omega) hj]; exact pk_in 0 6 (by omega)
  · refine nm_r (e' := 1) (by decide) (br_f (by decide) (br_f (by decide) ⟨pk_in k 24 (by omega), br_t (by rw [nI_clamp (by omega)]; exact h6 k k1 k2) (ft_i89_2 k1 (by omega) (i7 k k2) h60 ?_)⟩))
    exact H k _ _ _ _ _ _ k1 k2 hm pk_us (fun j j1 j2 hj => by rw [pk_un hj]; exact h6 j j1 j2)
theorem ft_ins_2 {post : St2 → Prop} {e : Nat} {C : Nat → Nat} {fM fP fD fK fR fN fL : Int32} {a1 a2 a3 a4 a5 a6 a7 a8 a9 a10 : Nat → Int32} (he1 : 1 ≤ e) (he : e ≤ 15) (hC : ∀ j, C j ≤ 100000) (h4 : a4 1 = 0) (h5 : ∀ j, 1 ≤ j → j ≤ e → a5 j = 0) (h6 : ∀ j, 1 ≤ j → j ≤ e → a6 j = 0)
    (hcost : ∀ (Q : Int32 → Prop) (b6 b7 b8 b9 : Nat → Int32) (j : Nat), 1 ≤ j → j ≤ e → Q (nI (C j)) → wpX_costOf Q (fM, fP, fD, fK, fR, (nI e), fN, fL, a1, a2, a3, a4, a5, b6, b7, b8, b9, a10) (nI 1) (nI j))
    (H : ∀ (k : Nat) (b4 b5 b6 b7 b8 b9 : Nat → Int32), 1 ≤ k → k ≤ e → (∀ j, 1 ≤ j → j ≤ e → C k ≤ C j) → b6 k = nI 1 → (∀ j, 1 ≤ j → j ≤ e → j ≠ k → b6 j = 0) → post (fM, fP, fD, fK, fR, (nI e), fN, fL, a1, a2, a3, b4, b5, b6, b7, b8, b9, a10)) :
    wpX_insert_2 post (fM, fP, fD, fK, fR, (nI e), fN, fL, a1, a2, a3, a4, a5, a6, a7, a8, a9, a10) 1 := by
  refine nm_r (e' := upd a6 0 (nI 1)) rfl ?_
  refine pk_loop (σ := (Nat → Int32) × (Nat → Int32) × (Nat → Int32)) (fun f i s => wX_insert_2_10 post fM fP fD fK fR (nI e) fN fL f (nI i) a1 a2 a3 a4 a5 (upd a6 0 (nI 1)) s.1 s.2.1 s.2.2 a10) (fun i s => (∀ j, j < i → s.1 j = 0) ∧ (∀ j, j < i → s.2.1 j = 268435456) ∧ (∀ j, j < i → s.2.2 j = 0)) (e + 1) 0 (a7, a8, a9) (by omega) ⟨fun j hj => absurd hj (by omega), fun j hj => absurd hj (by omega), fun j hj => absurd hj (by omega)⟩ ?_ ?_
  · intro f s hI
    refine pk_lt e (e + 1) (fun _ => ?_) (fun z => absurd z (by omega))
    exact ft_i50_2 he1 he hC h4 h5 pk_us (fun j j1 j2 => by rw [pk_un (by omega)]; exact h6 j j1 j2) (fun j hj => hI.1 j (by omega)) (fun j hj => hI.2.1 j (by omega)) (fun j hj => hI.2.2 j (by omega)) (fun Q b7 b8 b9 j j1 j2 hQ => hcost Q _ b7 b8 b9 j j1 j2 hQ) H
  · intro f i s hi hI hw
    refine pk_lt e i (fun z => absurd z (by omega)) (fun _ => ⟨pk_in i 24 (by omega), nm_r (e' := upd s.2.1 i 268435456) (by rw [nI_clamp (by omega)]) ⟨pk_in i 24 (by omega), nm_r (e' := upd s.2.2 i 0) (by rw [nI_clamp (by omega)]) ⟨pk_in i 24 (by omega), nm_r (e' := upd s.1 i 0) (by rw [nI_clamp (by omega)]) (nm_r (nI_1 i) (hw (upd s.1 i 0, upd s.2.1 i 268435456, upd s.2.2 i 0) ⟨ft_fill hI.1, ft_fill hI.2.1, ft_fill hI.2.2⟩))⟩⟩⟩)
theorem ft_m151_2 {post : Int32 → St2 → Prop} {e k v : Nat} {fM fP fD fK fR fN fL : Int32} {a1 a2 a3 a4 a5 a6 a7 a8 a9 a10 : Nat → Int32} (he : e ≤ 15) (h1 : 1 ≤ k) (hk : k ≤ e → a6 k = nI 1) (h6 : ∀ j, 1 ≤ j → j ≤ e → j ≠ k → a6 j = 0)
    (hcost : k ≤ e → ∀ (Q : Int32 → Prop), Q (nI v) → wpX_costOf Q (fM, fP, fD, fK, fR, (nI e), fN, fL, a1, a2, a3, a4, a5, a6, a7, a8, a9, a10) (nI 1) (nI k))
    (H : post (nI (if k ≤ e then v else 0)) (fM, fP, fD, fK, fR, (nI e), fN, fL, a1, a2, a3, a4, a5, a6, a7, a8, a9, a10)) : ∃ f, wX_match_2_151 post fM fP fD fK fR (nI e) fN fL a1 a2 a3 a4 a5 a6 a7 a8 a9 a10 f 0 1 := by
  refine pk_loop (σ := Int32) (fun f i s => wX_match_2_151 post fM fP fD fK fR (nI e) fN fL a1 a2 a3 a4 a5 a6 a7 a8 a9 a10 f s (nI i)) (fun i s => 1 ≤ i ∧ s = nI (if k < i then v else 0)) (e + 1) 1 0 (by omega) ⟨Nat.le_refl 1, by rw [if_neg (by omega)]; rfl⟩ ?_ ?_
  · intro f s hI
    refine pk_lt e (e + 1) (fun _ => ?_) (fun z => absurd z (by omega))
    rw [hI.2]
    by_cases z : k ≤ e
    · rw [if_pos (show k < e + 1 by omega)]
      rw [if_pos z] at H
      exact H
    · rw [if_neg (show ¬ k < e + 1 by omega)]
      rw [if_neg z] at H
      exact H
  · intro f i s hi hI hw
    obtain ⟨i1, rfl⟩ := hI
    refine pk_lt e i (fun z => absurd z (by omega)) (fun _ => ⟨pk_in i 24 (by omega), ?_⟩)
    rw [nI_clamp (show i < 2 ^ 31 by omega)]
    by_cases ej : i = k
    · subst ej
      rw [hk (by omega)]
      refine br_f (nI_nle (by omega) (by omega)) ⟨pk_in i 24 (by omega), hcost (by omega) _ (nm_r (e' := nI v) ?_ (nm_r (nI_1 i) (hw _ ⟨by omega, ?_⟩)))⟩
      · rw [if_neg (by omega), nI_0, Int32.zero_add]
      · rw [if_pos (by omega)]
    · rw [h6 i i1 (by omega) ej]
      refine br_t (by decide) (nm_r (nI_1 i) (hw _ ⟨by omega, ?_⟩))
      by_cases z : k < i
      · rw [if_pos z, if_pos (by omega)]
      · rw [if_neg z, if_neg (by omega)]
theorem ft_m75_2 {post : Int32 → St2 → Prop} {e q : Nat} {fM fP fD fK fN fL : Int32} {a1 a2 a3 a4 a5 a6 a7 a8 a9 a10 : Nat → Int32} (he : e ≤ 15) (hq : q ≤ 1)
    (H : ∀ b4 b5 b6 : Nat → Int32, (∀ j, j ≤ q → b4 j = 0) → (∀ j, j ≤ e → b5 j = 0 ∧ b6 j = 0) → ∃ f, wX_match_2_128 post f 1 fM fP fD fK (nI q) (nI e) fN fL a1 a2 a3 b4 b5 b6 a7 a8 a9 a10) : ∃ f, wX_match_2_75 post fM fP fD fK (nI q) (nI e) fN fL f 0 a1 a2 a3 a4 a5 a6 a7 a8 a9 a10 := by
  refine pk_loop (σ := Nat → Int32) (fun f i s => wX_match_2_75 post fM fP fD fK (nI q) (nI e) fN fL f (nI i) a1 a2 a3 s a5 a6 a7 a8 a9 a10) (fun i s => ∀ j, j < i → s j = 0) (q + 1) 0 a4 (by omega) (fun j hj => absurd hj (by omega)) ?_ ?_
  · intro f b4 h4
    refine pk_lt q (q + 1) (fun _ => ?_) (fun z => absurd z (by omega))
    refine pk_loop (σ := (Nat → Int32) × (Nat → Int32)) (fun f i s => wX_match_2_98 post fM fP fD fK (nI q) (nI e) fN fL f (nI i) a1 a2 a3 b4 s.1 s.2 a7 a8 a9 a10) (fun i s => (∀ j, j < i → s.1 j = 0) ∧ (∀ j, j < i → s.2 j = 0)) (e + 1) 0 (a5, a6) (by omega) ⟨fun j hj => absurd hj (by omega), fun j hj => absurd hj (by omega)⟩ ?_ ?_
    · intro f s hs
      exact pk_lt e (e + 1) (fun _ => H b4 s.1 s.2 (fun j hj => h4 j (by omega)) (fun j hj => ⟨hs.1 j (by omega), hs.2 j (by omega)⟩)) (fun z => absurd z (by omega))
    · intro f i s hi hs hw
      refine pk_lt e i (fun z => absurd z (by omega)) (fun _ => ⟨pk_in i 24 (by omega), nm_r (e' := upd s.1 i 0) (by rw [nI_clamp (by omega)]) ⟨pk_in i 24 (by omega), nm_r (e' := upd s.2 i 0) (by rw [nI_clamp (by omega)]) (nm_r (nI_1 i) (hw (upd s.1 i 0, upd s.2 i 0) ⟨ft_fill hs.1, ft_fill hs.2⟩))⟩⟩)
  · intro f i s hi hs hw
    refine pk_lt q i (fun z => absurd z (by omega)) (fun _ => ⟨pk_in i 6 (by omega), nm_r (e' := upd s i 0) (by rw [nI_clamp (by omega)]) (nm_r (nI_1 i) (hw _ (ft_fill hs)))⟩)
theorem ft_m33_2 {post : Int32 → St2 → Prop} {g : Nat} {fM fP fD fK fC fN fL : Int32} {a1 a2 a3 a4 a5 a6 a7 a8 a9 a10 : Nat → Int32} (hg : g ≤ 1) (H : ∀ b3 : Nat → Int32, (g = 1 → b3 1 = nI 0) → ∃ f, wX_match_2_75 post fM fP fD fK (nI g) fC fN fL f 0 a1 a2 b3 a4 a5 a6 a7 a8 a9 a10) : ∃ f, wX_match_2_33 post (nI g) fM fP fD fK fC fN fL f 0 0 a1 a2 a3 a4 a5 a6 a7 a8 a9 a10 := by
  have hg' : g = 0 ∨ g = 1 := by omega
  rcases hg' with rfl | rfl
  · exact ⟨0 + 1 + 1 + 1 + 1 + 1 + 1, br_f (by decide) (br_t (by decide) (nm_r (e' := 1) (by decide) (br_f (by decide) (br_t (by decide) (nm_r (e' := 2) (by decide) (br_f (by decide) (br_t (by decide) (nm_r (e' := 3) (by decide) (br_f (by decide) (br_t (by decide) (nm_r (e' := 4) (by decide) (br_f (by decide) (br_t (by decide) (nm_r (e' := 5) (by decide) (br_t (by decide) (H a3 (fun z => absurd z (by decide))))))))))))))))))⟩
  · exact ⟨0 + 1 + 1 + 1 + 1 + 1 + 1, br_f (by decide) (br_f (by decide) (nm_r (e' := nI 1) (by decide) ⟨pk_in 1 6 (by omega), nm_r (e' := upd a3 1 (nI 0)) rfl (nm_r (e' := 1) (by decide) (br_f (by decide) (br_t (by decide) (nm_r (e' := 2) (by decide) (br_f (by decide) (br_t (by decide) (nm_r (e' := 3) (by decide) (br_f (by decide) (br_t (by decide) (nm_r (e' := 4) (by decide) (br_f (by decide) (br_t (by decide) (nm_r (e' := 5) (by decide) (br_t (by decide) (H (upd a3 1 (nI 0)) (fun _ => pk_us))))))))))))))))⟩))⟩
theorem ft_mt_2 {post : Int32 → St2 → Prop} {n g w : Nat} {T : Nat → Nat} {fP fR fC fN fL : Int32} {a1 a2 a3 a4 a5 a6 a7 a8 a9 a10 : Nat → Int32} (hn1 : 1 ≤ n) (hn : n ≤ 3) (hg : g ≤ 1) (hw : w < 8) (h2 : a2 0 = nI w) (hT : ∀ m, m < 3 → a1 m = nI (T m) ∧ T m ≤ 15)
    (H : ∀ (k : Nat) (cR cC : Int32) (b3 b4 b5 b6 b7 b8 b9 : Nat → Int32), ft_K n g w T k → post (nI k) ((nI n), fP, (-1), (-1), cR, cC, fN, fL, a1, a2, b3, b4, b5, b6, b7, b8, b9, a10)) : wpX_match_2 post ((nI n), fP, (-1), (-1), fR, fC, fN, fL, a1, a2, a3, a4, a5, a6, a7, a8, a9, a10) (nI g) := by
  have e5 : nI n * 5 = nI (5 * n) := by
    rw [Nat.mul_comm, ← pk_mul]
    rfl
  refine br_t (by decide) (nm_r e5 (ft_m33_2 hg (fun b3 h3 => ft_m75_2 (by omega) hg (fun b4 b5 b6 h4 h56 => ?_))))
  have hC : ∀ j, min (ft_c w T j) 100000 ≤ 100000 := fun j => by omega
  have hCC : ∀ j, 1 ≤ j → j ≤ 5 * n → min (ft_c w T j) 100000 = ft_c w T j := fun j j1 j2 => Nat.min_eq_left (ft_c_le (hT _ (by omega)).2)
  have hg' : g = 0 ∨ g = 1 := by omega
  rcases hg' with rfl | rfl
  · refine ⟨0 + 1, br_t (by decide) (ft_m151_2 (k := 5 * n + 1) (v := 0) (by omega) (by omega) (fun z => absurd z (by omega)) (fun j j1 j2 _ => (h56 j j2).2) (fun z => absurd z (by omega)) ?_)⟩
    rw [if_neg (by omega)]
    exact H 0 _ _ _ _ _ _ _ _ _ (Or.inl ⟨rfl, rfl⟩)
  · refine ⟨0 + 1 + 1, br_f (by decide) (ft_ins_2 (C := fun j => min (ft_c w T j) 100000) (by omega) (by omega) hC (h4 1 (Nat.le_refl 1)) (fun j j1 j2 => (h56 j j2).1) (fun j j1 j2 => (h56 j j2).2) ?_ ?_)⟩
    · intro Q b6 b7 b8 b9 j j1 j2 hQ
      rw [hCC j j1 j2] at hQ
      exact ft_cost hn j1 j2 (h3 rfl) h2 hw hT hQ
    · intro k b4 b5 b6 b7 b8 b9 k1 k2 hm hk ho
      refine nm_r (e' := 2) (by decide) (br_t (by decide) (ft_m151_2 (k := k) (v := ft_c w T k) (by omega) k1 (fun _ => hk) ho ?_ ?_))
      · intro _ Q hQ
        exact ft_cost hn k1 k2 (h3 rfl) h2 hw hT hQ
      · rw [if_pos k2]
        refine H _ _ _ _ _ _ _ _ _ _ (Or.inr ⟨rfl, k, k1, k2, rfl, fun j j1 j2 => ?_⟩)
        have t := hm j j1 j2
        rw [hCC j j1 j2, hCC k k1 k2] at t
        exact t
theorem ft_tot_2 {post : Int32 → St2 → Prop} {n g w : Nat} {T : Nat → Nat} {fP fR fC fN fL : Int32} {a1 a2 a3 a4 a5 a6 a7 a8 a9 a10 : Nat → Int32} (hn1 : 1 ≤ n) (hn : n ≤ 3) (hg : g ≤ 1) (hw : w < 8) (h2 : a2 0 = nI w) (hT : ∀ m, m < 3 → a1 m = nI (T m) ∧ T m ≤ 15)
    (H : ∀ (r cR cC : Int32) (b3 b4 b5 b6 b7 b8 b9 : Nat → Int32), ft_R n g w T r → post r ((nI n), fP, (-1), (-1), cR, cC, fN, fL, a1, a2, b3, b4, b5, b6, b7, b8, b9, a10)) : wpX_totalOf_2 post ((nI n), fP, (-1), (-1), fR, fC, fN, fL, a1, a2, a3, a4, a5, a6, a7, a8, a9, a10) (nI g) := by
  refine ft_mt_2 (fR := fR) (fC := fC) hn1 hn hg hw h2 hT (fun k cR cC b3 b4 b5 b6 b7 b8 b9 hk => ?_)
  obtain ⟨k1, hR⟩ := ft_KR hn (fun m hm => (hT m hm).2) hk
  refine pk_lt k 100000 (fun z => ?_) (fun z => ?_)
  · rw [if_pos z] at hR
    rw [ft_sh3 z]
    exact H _ _ _ _ _ _ _ _ _ _ hR
  · rw [if_neg (by omega)] at hR
    exact H _ _ _ _ _ _ _ _ _ _ hR
end
section
theorem ft_has {post : Int32 → Prop} {g : Nat} {p0 : Int32} {fM fD fK fR fC fN fL : Int32} {a1 a2 a3 a4 a5 a6 a7 a8 a9 a10 : Nat → Int32} (hg : g ≤ 1) (H1 : g = 1 → p0 = nI 0 → post 1) (H0 : ¬ (g = 1 ∧ p0 = nI 0) → post 0) : wpX_has post (fM, (nI g), fD, fK, fR, fC, fN, fL, a1, a2, a3, a4, a5, a6, a7, a8, a9, a10) p0 := by
  refine br_c (fun z => H0 (fun t => ?_)) (fun z => br_c (fun z5 => H0 (fun t => ?_)) (fun z5 => ?_))
  · rw [t.2] at z
    exact absurd z (by decide)
  · rw [t.2] at z5
    exact absurd z5 (by decide)
  · obtain ⟨j, hj, rfl⟩ := nI_of z
    have hj5 : j < 5 := by
      rcases Nat.lt_or_ge j 5 with h | h
      · exact h
      · exact absurd (nI_le h hj) z5
    have t := ft_pres g (by omega) j hj5
    by_cases hc : g = 1 ∧ j = 0
    · exact br_f (fun y => t.mp y hc) (H1 hc.1 (by rw [hc.2]))
    · exact br_t (t.mpr hc) (H0 (fun y => hc ⟨y.1, (nI_eq hj (by omega)).mp y.2⟩))
theorem ft_ism {post : Int32 → Prop} {n : Nat} {p0 : Int32} {fP fD fK fR fC fN fL : Int32} {a1 a2 a3 a4 a5 a6 a7 a8 a9 a10 : Nat → Int32} (hn : n ≤ 3) (H1 : ∀ m, m < n → p0 = nI m → post 1) (H0 : (∀ m, m < n → p0 ≠ nI m) → post 0) : wpX_isMachine post ((nI n), fP, fD, fK, fR, fC, fN, fL, a1, a2, a3, a4, a5, a6, a7, a8, a9, a10) p0 := by
  refine br_c (fun z => H0 (fun m hm t => ?_)) (fun z => br_c (fun z5 => H0 (fun m hm t => ?_)) (fun z5 => ?_))
  · rw [t] at z
    exact nI_pos (by omega) z
  · rw [t] at z5
    exact nI_ge hm (by omega) z5
  · obtain ⟨j, hj, rfl⟩ := nI_of z
    have hjn : j < n := by
      rcases Nat.lt_or_ge j n with h | h
      · exact h
      · exact absurd (nI_le h hj) z5
    exact H1 j hjn rfl
theorem ft_time {post : Int32 → Prop} {n g : Nat} {T : Nat → Nat} {p0 p1 : Int32} {fD fK fR fC fN fL : Int32} {a1 a2 a3 a4 a5 a6 a7 a8 a9 a10 : Nat → Int32} (hn : n ≤ 3) (hg : g ≤ 1) (hT : ∀ k, k < 15 → a1 k = nI (T k) ∧ T k ≤ 15) (H1 : ∀ m, g = 1 → p0 = nI 0 → m < n → p1 = nI m → post (nI (T m))) (H0 : ¬ (g = 1 ∧ p0 = nI 0 ∧ ∃ m, m < n ∧ p1 = nI m) → post (-1)) : wpX_time post ((nI n), (nI g), fD, fK, fR, fC, fN, fL, a1, a2, a3, a4, a5, a6, a7, a8, a9, a10) p0 p1 := by
  unfold wpX_time
  refine ft_has hg (fun h1 h2 => br_f (by decide) (ft_ism hn (fun m hm h3 => br_f (by decide) ?_) (fun h => br_t rfl (H0 (fun t => ?_))))) (fun h => br_t rfl (H0 (fun t => h ⟨t.1, t.2.1⟩)))
  · have e : p0 * 3 + p1 = nI m := by rw [h2, h3, show nI 0 * 3 = nI 0 by decide, nI_add, Nat.zero_add]
    rw [e, nI_clamp (by omega), (hT m (by omega)).1]
    exact ⟨pk_in m 15 (by omega), H1 m h1 h2 hm h3⟩
  · obtain ⟨m, hm, hm'⟩ := t.2.2
    exact h m hm hm'
theorem ft_able {post : Int32 → Prop} {n j : Nat} {T : Nat → Nat} {fP fD fK fR fC fN fL : Int32} {a1 a2 a3 a4 a5 a6 a7 a8 a9 a10 : Nat → Int32} (hn : n ≤ 3) (hj : j < 5) (hT : ∀ k, k < 15 → a1 k = nI (T k) ∧ T k ≤ 15) (H : ∀ w, w < 8 → (∀ m, m < n → (Nat.testBit w m = true ↔ 0 < T (j * 3 + m))) → post (nI w)) : wpX_able post ((nI n), fP, fD, fK, fR, fC, fN, fL, a1, a2, a3, a4, a5, a6, a7, a8, a9, a10) (nI j) := by
  refine pk_loop (σ := Int32) (fun f i s => wX_able_4 post (nI j) (nI n) fP fD fK fR fC fN fL a1 a2 a3 a4 a5 a6 a7 a8 a9 a10 f s (nI i)) (fun i s => ∃ w, w < 8 ∧ s = nI w ∧ (∀ m, m < 3 → (Nat.testBit w m = true ↔ (m < i ∧ 0 < T (j * 3 + m))))) n 0 0 (by omega) ⟨0, by omega, rfl, fun m hm => ⟨fun z => by rw [ft_t0 m hm] at z; exact absurd z (by decide), fun z => absurd z.1 (by omega)⟩⟩ ?_ ?_
  · intro f s hI
    obtain ⟨w, hw, rfl, hb⟩ := hI
    exact pk_le n n (fun _ => H w hw (fun m hm => ⟨fun z => ((hb m (by omega)).mp z).2, fun z => (hb m (by omega)).mpr ⟨hm, z⟩⟩)) (fun z => absurd z (by omega))
  · intro f i s hi hI hw'
    obtain ⟨w, hw, rfl, hb⟩ := hI
    have e : nI j * 3 + nI i = nI (j * 3 + i) := by rw [show (3 : Int32) = nI 3 from rfl, pk_mul, nI_add]
    have t15 := hT (j * 3 + i) (by omega)
    have ho := ft_or w hw i (by omega)
    refine pk_le n i (fun z => absurd z (by omega)) (fun _ => ?_)
    rw [e, nI_clamp (show j * 3 + i < 2 ^ 31 by omega), t15.1]
    refine ⟨pk_in (j * 3 + i) 15 (by omega), ?_⟩
    have l15 := t15.2
    refine pk_le (T (j * 3 + i)) 0 (fun z => nm_r (nI_1 i) (hw' _ ⟨w, hw, rfl, fun m hm => ?_⟩)) (fun z => nm_r ho.1 (nm_r (nI_1 i) (hw' _ ⟨_, ho.2.1, rfl, fun m hm => ?_⟩)))
    · rw [hb m hm]
      refine ⟨fun t => ⟨by omega, t.2⟩, fun t => ⟨?_, t.2⟩⟩
      by_cases em : m = i
      · rw [em] at t
        omega
      · omega
    · by_cases em : m = i
      · rw [em]
        exact ⟨fun _ => ⟨by omega, z⟩, fun _ => ho.2.2.1⟩
      · rw [ho.2.2.2 m hm em, hb m hm]
        exact ⟨fun t => ⟨by omega, t.2⟩, fun t => ⟨by omega, t.2⟩⟩
theorem ft_ask {post : St2 → Prop} {n : Nat} {T : Nat → Nat} {fP fD fK fR fC fN fL : Int32} {a1 a2 a3 a4 a5 a6 a7 a8 a9 a10 : Nat → Int32} (hn : n ≤ 3) (hT : ∀ k, k < 15 → a1 k = nI (T k) ∧ T k ≤ 15) (H : ∀ (w : Nat) (b2 : Nat → Int32), w < 8 → (∀ m, m < n → (Nat.testBit w m = true ↔ 0 < T m)) → b2 0 = nI w → post ((nI n), fP, (-1), (-1), fR, fC, fN, fL, a1, b2, a3, a4, a5, a6, a7, a8, a9, a10)) : wpX_askPlainly post ((nI n), fP, fD, fK, fR, fC, fN, fL, a1, a2, a3, a4, a5, a6, a7, a8, a9, a10) := by
  refine pk_loop (σ := Nat → Int32) (fun f i s => wX_askPlainly_2 post (nI n) fP fD fK fR fC fN fL f (nI i) a1 s a3 a4 a5 a6 a7 a8 a9 a10) (fun i s => 0 < i → ∃ w, w < 8 ∧ (∀ m, m < n → (Nat.testBit w m = true ↔ 0 < T m)) ∧ s 0 = nI w) 5 0 a2 (by omega) (fun z => absurd z (by omega)) ?_ ?_
  · intro f s hI
    obtain ⟨w, hw, hb, h0⟩ := hI (by omega)
    exact pk_le 5 5 (fun _ => H w s hw hb h0) (fun z => absurd z (by omega))
  · intro f i s hi hI hw'
    refine pk_le 5 i (fun z => absurd z (by omega)) (fun _ => ft_able hn hi hT (fun w hw hb => ⟨pk_in i 5 hi, nm_r (e' := upd s i (nI w)) (by rw [nI_clamp (by omega), ft_b8 w (by omega)]) (nm_r (nI_1 i) (hw' _ (fun _ => ?_)))⟩))
    by_cases ei : i = 0
    · subst ei
      refine ⟨w, hw, fun m hm => ?_, pk_us⟩
      have t := hb m hm
      rw [show 0 * 3 + m = m by omega] at t
      exact t
    · obtain ⟨v, hv, hb', h0⟩ := hI (by omega)
      exact ⟨v, hv, hb', by rw [pk_un (by omega)]; exact h0⟩
theorem ft_R1 {n i : Nat} {T : Nat → Nat} {r : Int32} (hi : i < n) (hn : n ≤ 3) (h : ft_R n 1 (2 ^ i) T r) : r = nI (T i) := by
  have ho := (ft_one i (by omega)).2.2
  rcases h with ⟨z, _⟩ | ⟨_, ⟨m, hm, hb, hr, _⟩ | ⟨hz, _⟩⟩
  · exact absurd z (by decide)
  · rw [hr, (ho m (by omega)).mp hb]
  · have t := hz i hi
    rw [(ho i (by omega)).mpr rfl] at t
    exact absurd t (by decide)
theorem ft_fm9 {post : Int32 → St2 → Prop} {n w lt : Nat} {T : Nat → Nat} {fN : Int32} {a1 a10 : Nat → Int32} (hn1 : 1 ≤ n) (hn : n ≤ 3) (hw : w < 8) (hlt : lt ≤ 15) (hT : ∀ m, m < 3 → a1 m = nI (T m) ∧ T m ≤ 15) (hl : ∃ m, m < n ∧ Nat.testBit w m = true ∧ T m = lt)
    (H : ∀ (m : Nat) (cR cC : Int32) (b2 b3 b4 b5 b6 b7 b8 b9 : Nat → Int32), m < n → Nat.testBit w m = true → T m = lt → (∀ k, k < m → Nat.testBit w k = true → T k ≠ lt) → post (nI m) ((nI n), (nI 1), (-1), (-1), cR, cC, fN, (nI lt), a1, b2, b3, b4, b5, b6, b7, b8, b9, a10)) :
    ∀ (d i : Nat), i + d = n → (∀ k, k < i → Nat.testBit w k = true → T k ≠ lt) → ∀ (fR fC : Int32) (a2 a3 a4 a5 a6 a7 a8 a9 : Nat → Int32), wX_firstMachine_9 post (nI 0) (nI w) (d + 1) (nI i) (nI n) (nI 1) (-1) (-1) fR fC fN (nI lt) a1 a2 a3 a4 a5 a6 a7 a8 a9 a10 := by
  intro d
  induction d with
  | zero =>
    intro i hi hk
    obtain ⟨m, hm, hb, ht⟩ := hl
    exact absurd ht (hk m (by omega) hb)
  | succ d ih =>
    intro i hi hk fR fC a2 a3 a4 a5 a6 a7 a8 a9
    have hi3 : i < 3 := by omega
    refine pk_le n i (fun z => absurd z (by omega)) (fun _ => ?_)
    by_cases hb : Nat.testBit w i = true
    · have ho := ft_one i hi3
      have t15 := (hT i hi3).2
      refine br_f (fun z => by rw [(ft_bit w hw i hi3).mp z] at hb; exact absurd hb (by decide)) ⟨pk_in 0 5 (by omega), nm_r (e' := upd a2 0 (nI (2 ^ i))) (by rw [nI_clamp (by omega), ho.1]) (ft_tot_2 (g := 1) (w := 2 ^ i) hn1 hn (Nat.le_refl 1) ho.2.1 pk_us hT (fun r cR cC b3 b4 b5 b6 b7 b8 b9 hR => ?_))⟩
      have er : r = nI (T i) := ft_R1 (by omega) hn hR
      refine pk_eq (T i) lt (fun z => ?_) (fun z => nm_r (nI_1 i) (ih (i + 1) (by omega) (fun k hk1 hk2 => ?_) _ _ _ _ _ _ _ _ _ _)) er
      · exact H i _ _ _ _ _ _ _ _ _ _ (by omega) hb z hk
      · by_cases ek : k = i
        · rw [ek]
          exact z
        · exact hk k (by omega) hk2
    · refine br_t ((ft_bit w hw i hi3).mpr (by simpa using hb)) (nm_r (nI_1 i) (ih (i + 1) (by omega) (fun k hk1 hk2 => ?_) _ _ _ _ _ _ _ _ _ _))
      by_cases ek : k = i
      · rw [ek] at hk2
        exact absurd hk2 hb
      · exact hk k (by omega) hk2
theorem ft_fm {post : Int32 → St2 → Prop} {n w lt : Nat} {T : Nat → Nat} {fR fC fN : Int32} {a1 a2 a3 a4 a5 a6 a7 a8 a9 a10 : Nat → Int32} (hn1 : 1 ≤ n) (hn : n ≤ 3) (hw : w < 8) (h2 : a2 0 = nI w) (hlt : lt ≤ 15) (hT : ∀ m, m < 3 → a1 m = nI (T m) ∧ T m ≤ 15) (hl : ∃ m, m < n ∧ Nat.testBit w m = true ∧ T m = lt)
    (H : ∀ (m : Nat) (cR cC : Int32) (b2 b3 b4 b5 b6 b7 b8 b9 : Nat → Int32), m < n → Nat.testBit w m = true → T m = lt → (∀ k, k < m → Nat.testBit w k = true → T k ≠ lt) → post (nI m) ((nI n), (nI 1), (-1), (-1), cR, cC, fN, (nI lt), a1, b2, b3, b4, b5, b6, b7, b8, b9, a10)) :
    wpX_firstMachine post ((nI n), (nI 1), (-1), (-1), fR, fC, fN, (nI lt), a1, a2, a3, a4, a5, a6, a7, a8, a9, a10) (nI 0) :=
  ⟨pk_in 0 5 (by omega), nm_r (e' := nI w) (by rw [nI_clamp (by omega)]; exact h2) ⟨n + 1, ft_fm9 hn1 hn hw hlt hT hl H n 0 (by omega) (fun k hk => absurd hk (by omega)) _ _ _ _ _ _ _ _ _ _⟩⟩
theorem ft_l31 {post : St2 → Prop} {g : Nat} {fM fD fK fR fC fN fL : Int32} {a1 a2 a3 a4 a5 a6 a7 a8 a9 a10 : Nat → Int32} (hg : g ≤ 1) (H : post (fM, (nI g), fD, fK, fR, fC, fN, fL, a1, a2, a3, a4, a5, a6, a7, a8, a9, a10)) : ∀ (d i : Nat), i + d = 5 → (g = 1 → 1 ≤ i) → wX_learn_31 post (d + 1) (nI i) fM (nI g) fD fK fR fC fN fL a1 a2 a3 a4 a5 a6 a7 a8 a9 a10 := by
  intro d
  induction d with
  | zero =>
    intro i hi _
    exact pk_le 5 i (fun _ => H) (fun z => absurd z (by omega))
  | succ d ih =>
    intro i hi h1
    refine pk_le 5 i (fun z => absurd z (by omega)) (fun _ => ft_has hg (fun e1 e2 => ?_) (fun _ => br_t rfl (nm_r (nI_1 i) (ih (i + 1) (by omega) (fun z => by omega)))))
    have t := (nI_eq (show i < 2 ^ 31 by omega) (show 0 < 2 ^ 31 by omega)).mp e2
    have := h1 e1
    omega
/-- what learn leaves: the least total, and the first machine that reaches it -/
def ft_L (n g : Nat) (T : Nat → Nat) (lt : Int32) (b10 : Nat → Int32) : Prop := (g = 0 ∧ lt = 0) ∨ (g = 1 ∧ ∃ m, m < n ∧ 0 < T m ∧ lt = nI (T m) ∧ b10 0 = nI m ∧ (∀ k, k < n → 0 < T k → T m ≤ T k) ∧ (∀ k, k < m → 0 < T k → T k ≠ T m))
theorem ft_learn {post : St2 → Prop} {n g : Nat} {T : Nat → Nat} {fD fK fR fC fL : Int32} {a1 a2 a3 a4 a5 a6 a7 a8 a9 a10 : Nat → Int32} (hn1 : 1 ≤ n) (hn : n ≤ 3) (hg : g ≤ 1) (hT : ∀ k, k < 15 → a1 k = nI (T k) ∧ T k ≤ 15) (hgood : g = 1 → ∃ m, m < n ∧ 0 < T m)
    (H : ∀ (lt cR cC : Int32) (b2 b3 b4 b5 b6 b7 b8 b9 b10 : Nat → Int32), ft_L n g T lt b10 → post ((nI n), (nI g), (-1), (-1), cR, cC, 1, lt, a1, b2, b3, b4, b5, b6, b7, b8, b9, b10)) :
    wpX_learn post ((nI n), (nI g), fD, fK, fR, fC, 0, fL, a1, a2, a3, a4, a5, a6, a7, a8, a9, a10) := by
  refine br_t rfl (ft_ask hn hT (fun w b2 hw hb h20 => ft_tot hn1 hn hg hw h20 (fun m hm => hT m (by omega)) (fun r cR cC b3 b4 b5 b6 b7 b8 b9 hR => ?_)))
  rcases hR with ⟨rfl, hr⟩ | ⟨rfl, hR⟩
  · exact ⟨5 + 1, ft_l31 hg (H _ _ _ _ _ _ _ _ _ _ _ _ (Or.inl ⟨rfl, hr⟩)) 5 0 (by omega) (fun z => absurd z (by decide))⟩
  · rcases hR with ⟨m, hm, hbm, hr, hmin⟩ | ⟨hz, _⟩
    · subst hr
      have t15 := (hT m (by omega)).2
      refine ⟨5 + 1, pk_le 5 0 (fun z => absurd z (by omega)) (fun _ => ft_has hg (fun _ _ => br_f (by decide) (ft_fm hn1 hn hw h20 t15 (fun m hm => hT m (by omega)) ⟨m, hm, hbm, rfl⟩ (fun k cR cC b2 b3 b4 b5 b6 b7 b8 b9 hk hbk hk1 hk2 => ?_))) (fun z => absurd ⟨rfl, rfl⟩ z))⟩
      refine ⟨pk_in 0 5 (by omega), nm_r (e' := upd a10 0 (nI k)) ?_ ⟨pk_in 0 5 (by omega), pk_in 0 5 (by omega), nm_e (nm_r (e' := nI 1) (by decide) (ft_l31 hg (H _ _ _ _ _ _ _ _ _ _ _ _ (Or.inr ⟨rfl, k, hk, (hb k hk).mp hbk, ?_, pk_us, fun j hj hj0 => ?_, fun j hj hj0 => ?_⟩)) 4 1 (by omega) (fun _ => Nat.le_refl 1)))⟩⟩
      · rw [ft_b8 k (by omega)]
        rfl
      · rw [hk1]
      · rw [hk1]
        exact hmin j hj ((hb j hj).mpr hj0)
      · rw [hk1]
        exact hk2 j hj ((hb j (by omega)).mpr hj0)
    · obtain ⟨m, hm, hm0⟩ := hgood rfl
      have t := hz m hm
      rw [(hb m hm).mpr hm0] at t
      exact absurd t (by decide)
theorem ft_learn1 {post : St2 → Prop} {fM fP fD fK fR fC fL : Int32} {a1 a2 a3 a4 a5 a6 a7 a8 a9 a10 : Nat → Int32} (H : post (fM, fP, fD, fK, fR, fC, 1, fL, a1, a2, a3, a4, a5, a6, a7, a8, a9, a10)) : wpX_learn post (fM, fP, fD, fK, fR, fC, 1, fL, a1, a2, a3, a4, a5, a6, a7, a8, a9, a10) := br_f (by decide) H
theorem ft_least {post : Int32 → St2 → Prop} {n g : Nat} {T : Nat → Nat} {fD fK fR fC fL : Int32} {a1 a2 a3 a4 a5 a6 a7 a8 a9 a10 : Nat → Int32} (hn1 : 1 ≤ n) (hn : n ≤ 3) (hg : g ≤ 1) (hT : ∀ k, k < 15 → a1 k = nI (T k) ∧ T k ≤ 15) (hgood : g = 1 → ∃ m, m < n ∧ 0 < T m)
    (H : ∀ (lt cR cC : Int32) (b2 b3 b4 b5 b6 b7 b8 b9 b10 : Nat → Int32), ft_L n g T lt b10 → post lt ((nI n), (nI g), (-1), (-1), cR, cC, 1, lt, a1, b2, b3, b4, b5, b6, b7, b8, b9, b10)) :
    wpX_least post ((nI n), (nI g), fD, fK, fR, fC, 0, fL, a1, a2, a3, a4, a5, a6, a7, a8, a9, a10) :=
  ft_learn hn1 hn hg hT hgood (fun lt cR cC b2 b3 b4 b5 b6 b7 b8 b9 b10 h => H lt cR cC b2 b3 b4 b5 b6 b7 b8 b9 b10 h)
theorem ft_with {post : Int32 → St2 → Prop} {n g : Nat} {T : Nat → Nat} {p0 p1 : Int32} {fD fK fR fC fN fL : Int32} {a1 a2 a3 a4 a5 a6 a7 a8 a9 a10 : Nat → Int32} (hn1 : 1 ≤ n) (hn : n ≤ 3) (hg : g ≤ 1) (hT : ∀ k, k < 15 → a1 k = nI (T k) ∧ T k ≤ 15)
    (H : ∀ (r cD cK cR cC : Int32) (b2 b3 b4 b5 b6 b7 b8 b9 : Nat → Int32), ((∃ m, g = 1 ∧ p0 = nI 0 ∧ m < n ∧ p1 = nI m ∧ 0 < T m ∧ r = nI (T m)) ∨ (¬ (∃ m, g = 1 ∧ p0 = nI 0 ∧ m < n ∧ p1 = nI m ∧ 0 < T m) ∧ r = -1)) → post r ((nI n), (nI g), cD, cK, cR, cC, fN, fL, a1, b2, b3, b4, b5, b6, b7, b8, b9, a10)) :
    wpX_leastWith post ((nI n), (nI g), fD, fK, fR, fC, fN, fL, a1, a2, a3, a4, a5, a6, a7, a8, a9, a10) p0 p1 := by
  unfold wpX_leastWith
  refine ft_has hg (fun h1 h2 => br_f (by decide) (ft_ism hn (fun m hm h3 => br_f (by decide) ?_) (fun h => br_t rfl (H _ _ _ _ _ _ _ _ _ _ _ _ _ (Or.inr ⟨fun t => ?_, rfl⟩))))) (fun h => br_t rfl (H _ _ _ _ _ _ _ _ _ _ _ _ _ (Or.inr ⟨fun t => ?_, rfl⟩)))
  · have e : p0 * 3 + p1 = nI m := by rw [h2, h3, show nI 0 * 3 = nI 0 by decide, nI_add, Nat.zero_add]
    have t15 := (hT m (by omega)).2
    have ho := ft_one m (by omega)
    rw [e, nI_clamp (by omega), (hT m (by omega)).1]
    refine ⟨pk_in m 15 (by omega), pk_eq (T m) 0 (fun z => H _ _ _ _ _ _ _ _ _ _ _ _ _ (Or.inr ⟨fun t => ?_, rfl⟩)) (fun z => ft_ask hn hT (fun w b2 hw hb h20 => ?_))⟩
    · obtain ⟨k, _, _, hk, hk2, hk3⟩ := t
      have : m = k := (nI_eq (by omega) (by omega)).mp (h3.symm.trans hk2)
      rw [← this] at hk3
      omega
    · refine ⟨by rw [h2]; exact pk_in 0 5 (by omega), nm_r (e' := upd b2 0 (nI (2 ^ m))) ?_ (ft_tot (w := 2 ^ m) hn1 hn hg ho.2.1 pk_us (fun m hm => hT m (by omega)) (fun r cR cC b3 b4 b5 b6 b7 b8 b9 hR => ?_))⟩
      · rw [h2, h3, ho.1, nI_clamp (by omega)]
      · rw [h1] at hR
        exact H _ _ _ _ _ _ _ _ _ _ _ _ _ (Or.inl ⟨m, h1, h2, hm, h3, by omega, ft_R1 hm hn hR⟩)
  · obtain ⟨k, _, _, hk, hk2, _⟩ := t
    exact h k hk hk2
  · obtain ⟨k, hk, hk2, _⟩ := t
    exact h ⟨hk, hk2⟩
theorem ft_mof {post : Int32 → St2 → Prop} {g : Nat} {p0 : Int32} {fM fD fK fR fC fL : Int32} {a1 a2 a3 a4 a5 a6 a7 a8 a9 a10 : Nat → Int32} (hg : g ≤ 1)
    (H1 : g = 1 → p0 = nI 0 → post (a10 0) (fM, (nI g), fD, fK, fR, fC, 1, fL, a1, a2, a3, a4, a5, a6, a7, a8, a9, a10)) (H0 : ¬ (g = 1 ∧ p0 = nI 0) → post (-1) (fM, (nI g), fD, fK, fR, fC, 1, fL, a1, a2, a3, a4, a5, a6, a7, a8, a9, a10)) : wpX_machineOf post (fM, (nI g), fD, fK, fR, fC, 1, fL, a1, a2, a3, a4, a5, a6, a7, a8, a9, a10) p0 := by
  unfold wpX_machineOf
  refine ft_has hg (fun h1 h2 => br_f (by decide) (ft_learn1 ⟨?_, ?_⟩)) (fun h => br_t rfl (H0 h))
  · rw [h2]
    exact pk_in 0 5 (by omega)
  · have t := H1 h1 h2
    rw [h2, nI_clamp (by omega)]
    exact t
theorem ft_idle {post : Int32 → St2 → Prop} {n g : Nat} {T : Nat → Nat} {p0 : Int32} {fD fK fR fC fN fL : Int32} {a1 a2 a3 a4 a5 a6 a7 a8 a9 a10 : Nat → Int32} (hn1 : 1 ≤ n) (hn : n ≤ 3) (hg : g ≤ 1) (hT : ∀ k, k < 15 → a1 k = nI (T k) ∧ T k ≤ 15)
    (H : ∀ (r cD cK cR cC : Int32) (b2 b3 b4 b5 b6 b7 b8 b9 : Nat → Int32), (((∀ m, m < n → p0 ≠ nI m) ∧ r = -1) ∨ (∃ m w, m < n ∧ p0 = nI m ∧ (∀ k, k < n → (Nat.testBit w k = true ↔ (0 < T k ∧ k ≠ m))) ∧ ft_R n g w T r)) → post r ((nI n), (nI g), cD, cK, cR, cC, fN, fL, a1, b2, b3, b4, b5, b6, b7, b8, b9, a10)) :
    wpX_leastIdle post ((nI n), (nI g), fD, fK, fR, fC, fN, fL, a1, a2, a3, a4, a5, a6, a7, a8, a9, a10) p0 := by
  unfold wpX_leastIdle
  refine ft_ism hn (fun m hm h3 => br_f (by decide) (ft_ask hn hT (fun w b2 hw hb h20 => ?_))) (fun h => br_t rfl (H _ _ _ _ _ _ _ _ _ _ _ _ _ (Or.inl ⟨h, rfl⟩)))
  subst h3
  have hc := ft_clr w hw m (by omega)
  refine pk_loop (σ := Nat → Int32) (fun f i s => wX_leastIdle_16 post (nI m) (nI n) (nI g) (-1) (-1) fR fC fN fL f (nI i) a1 s a3 a4 a5 a6 a7 a8 a9 a10) (fun i s => if i = 0 then s 0 = nI w else s 0 = nI (ft_cl w m)) 5 0 b2 (by omega) (by rw [if_pos rfl]; exact h20) ?_ ?_
  · intro f s hI
    rw [if_neg (by omega)] at hI
    refine pk_le 5 5 (fun _ => ft_tot (w := ft_cl w m) hn1 hn hg hc.2.1 hI (fun m hm => hT m (by omega)) (fun r cR cC b3 b4 b5 b6 b7 b8 b9 hR => H _ _ _ _ _ _ _ _ _ _ _ _ _ (Or.inr ⟨m, ft_cl w m, hm, rfl, fun k hk => ?_, hR⟩))) (fun z => absurd z (by omega))
    rw [hc.2.2 k (by omega), hb k hk]
  · intro f i s hi hI hw'
    refine pk_le 5 i (fun z => absurd z (by omega)) (fun _ => ⟨pk_in i 5 hi, pk_in i 5 hi, nm_e (nm_r (nI_1 i) (hw' _ ?_))⟩)
    rw [if_neg (by omega), nI_clamp (show i < 2 ^ 31 by omega)]
    by_cases ei : i = 0
    · subst ei
      rw [if_pos rfl] at hI
      rw [pk_us, hI]
      exact hc.1
    · rw [if_neg ei] at hI
      rw [pk_un (by omega)]
      exact hI
theorem ft_isT {post : Int32 → Prop} {x : Int32} (H1 : ∀ t, t ≤ 15 → x = nI t → post 1) (H0 : (∀ t, t ≤ 15 → x ≠ nI t) → post 0) : wpX_isTime post () x := by
  refine br_c (fun z => H0 (fun t ht e => ?_)) (fun z => br_c (fun z5 => H0 (fun t ht e => ?_)) (fun z5 => ?_))
  · rw [e] at z
    exact nI_pos (by omega) z
  · rw [e] at z5
    exact nI_nlt (b := t) (a := 15) ht (by omega) z5
  · obtain ⟨j, hj, rfl⟩ := nI_of z
    have hj5 : j ≤ 15 := by
      rcases Nat.lt_or_ge 15 j with h | h
      · exact absurd (nI_lt h hj) z5
      · exact h
    exact H1 j hj5 rfl
/-- a good job: its three times -/
def ft_G (x1 x4 z0 : Int32) (a y z : Nat) : Prop := a ≤ 15 ∧ y ≤ 15 ∧ z ≤ 15 ∧ 0 < a + y + z ∧ x1 = nI a ∧ x4 = nI y ∧ z0 = nI z
theorem ft_add28 {post : Int32 → St2 → Prop} {x1 x4 z0 : Int32} {fM fD fK fR fC fN fL : Int32} {a1 a2 a3 a4 a5 a6 a7 a8 a9 a10 : Nat → Int32} (H1 : ∀ a y z, ft_G x1 x4 z0 a y z → post 0 (fM, (nI 1), fD, fK, fR, fC, 0, fL, (upd (upd (upd a1 0 (nI a)) 1 (nI y)) 2 (nI z)), a2, a3, a4, a5, a6, a7, a8, a9, a10)) (H0 : ¬ (∃ a y z, ft_G x1 x4 z0 a y z) → post (-1) (fM, (nI 0), fD, fK, fR, fC, fN, fL, a1, a2, a3, a4, a5, a6, a7, a8, a9, a10)) : wX_add_28 post x1 x4 z0 fM (nI 0) fD fK fR fC fN fL a1 a2 a3 a4 a5 a6 a7 a8 a9 a10 := by
  unfold wX_add_28
  refine ft_isT (fun a ha ea => br_f (by decide) (ft_isT (fun y hy ey => br_f (by decide) (ft_isT (fun z hz ez => br_f (by decide) ?_) (fun h => br_t rfl (H0 (fun t => ?_))))) (fun h => br_t rfl (H0 (fun t => ?_))))) (fun h => br_t rfl (H0 (fun t => ?_)))
  · subst ea ey ez
    have ho := ft_or3 a (by omega) y (by omega) z (by omega)
    by_cases hs : a = 0 ∧ y = 0 ∧ z = 0
    · refine br_t (ho.mpr hs) (H0 (fun t => ?_))
      obtain ⟨a', y', z', g1, g2, g3, g4, g5, g6, g7⟩ := t
      have e1 := (nI_eq (show a < 2 ^ 31 by omega) (show a' < 2 ^ 31 by omega)).mp g5
      have e2 := (nI_eq (show y < 2 ^ 31 by omega) (show y' < 2 ^ 31 by omega)).mp g6
      have e3 := (nI_eq (show z < 2 ^ 31 by omega) (show z' < 2 ^ 31 by omega)).mp g7
      omega
    · refine br_f (fun t => hs (ho.mp t)) ⟨0 + 1, br_f (by decide) (ft_has (g := 0) (by omega) (fun z => absurd z (by decide)) (fun _ => br_t rfl (nm_r (e' := nI 1) (by decide) ⟨pk_in 0 15 (by omega), nm_r (e' := upd a1 0 (nI a)) ?_ ⟨pk_in 1 15 (by omega), nm_r (e' := upd (upd a1 0 (nI a)) 1 (nI y)) ?_ ⟨pk_in 2 15 (by omega), nm_r (e' := upd (upd (upd a1 0 (nI a)) 1 (nI y)) 2 (nI z)) ?_ (H1 a y z ⟨ha, hy, hz, by omega, rfl, rfl, rfl⟩)⟩⟩⟩)))⟩
      · rw [ft_b8 a (by omega)]
        rfl
      · rw [ft_b8 y (by omega)]
        rfl
      · rw [ft_b8 z (by omega)]
        rfl
  · obtain ⟨a', y', z', g1, g2, g3, g4, g5, g6, g7⟩ := t
    exact h z' g3 g7
  · obtain ⟨a', y', z', g1, g2, g3, g4, g5, g6, g7⟩ := t
    exact h y' g2 g6
  · obtain ⟨a', y', z', g1, g2, g3, g4, g5, g6, g7⟩ := t
    exact h a' g1 g5
theorem ft_add {post : Int32 → St2 → Prop} {n : Nat} {p0 p1 p2 y0 z0 : Int32} {fD fK fR fC fN fL : Int32} {a1 a2 a3 a4 a5 a6 a7 a8 a9 a10 : Nat → Int32} (hn : n ≤ 3) (hy : y0 = if nI n ≤ 1 then 0 else p1) (hz : z0 = if nI n ≤ 2 then 0 else p2)
    (H1 : ∀ a y z, ft_G p0 y0 z0 a y z → post 0 ((nI n), (nI 1), fD, fK, fR, fC, 0, fL, (upd (upd (upd a1 0 (nI a)) 1 (nI y)) 2 (nI z)), a2, a3, a4, a5, a6, a7, a8, a9, a10)) (H0 : ¬ (∃ a y z, ft_G p0 y0 z0 a y z) → post (-1) ((nI n), (nI 0), fD, fK, fR, fC, fN, fL, a1, a2, a3, a4, a5, a6, a7, a8, a9, a10)) : wpX_add post ((nI n), (nI 0), fD, fK, fR, fC, fN, fL, a1, a2, a3, a4, a5, a6, a7, a8, a9, a10) p0 p1 p2 := by
  refine br_c (fun c1 => ?_) (fun c1 => ?_)
  · rw [if_pos c1] at hy
    subst hy
    refine br_c (fun c2 => ?_) (fun c2 => ?_)
    · rw [if_pos c2] at hz
      subst hz
      exact ft_add28 H1 H0
    · rw [if_neg c2] at hz
      subst hz
      exact ft_add28 H1 H0
  · rw [if_neg c1] at hy
    subst hy
    refine br_c (fun c2 => ?_) (fun c2 => ?_)
    · rw [if_pos c2] at hz
      subst hz
      exact ft_add28 H1 H0
    · rw [if_neg c2] at hz
      subst hz
      exact ft_add28 H1 H0
end
section
/-! the law's own tree: what each of its checks asks, as if-then-else over ints -/
theorem fw_br {c : Prop} [Decidable c] (P : Int32 → Prop) {x y : Int32} {A B : Prop} (h : P (if c then x else y)) (fa : P x → A) (fb : P y → B) : (c → A) ∧ (¬ c → B) :=
  ⟨fun z => fa (by rw [if_pos z] at h; exact h), fun z => fb (by rw [if_neg z] at h; exact h)⟩
theorem fw_486 {post : Int32 → St0 → Prop} {mc ms kc ks : Nat} {z0 z1 : Int32} (hp : post 1 ()) (h : z1 = z0) : wL_lawOf_486 post mc ms z0 z1 kc ks := br_t h hp
theorem fw_452 {post : Int32 → St0 → Prop} {mc ms kc ks : Nat} {x12 x16 x19 x24 z0 z1 : Int32} (hp : post 1 ()) (h11 : z1 = z0) (h12 : x12 = (if x19 = 0 then -1 else if x16 = 0 then 0 else if x24 ≤ 0 then -1 else x24)) : wL_lawOf_452 post mc ms x12 x16 x19 x24 z0 z1 kc ks :=
  br_t h11 (fw_br (fun r => x12 = r) h12 (fun h => fw_486 hp h) (fun h => fw_br (fun r => x12 = r) h (fun h => fw_486 hp h) (fun h => fw_br (fun r => x12 = r) h (fun h => fw_486 hp h) (fun h => fw_486 hp h))))
theorem fw_436 {post : Int32 → St0 → Prop} {mc ms kc ks : Nat} {x11 x12 x16 x17 x19 x20 x24 z0 z1 : Int32} (hp : post 1 ()) (h10 : z1 = z0) (h11 : x11 = (if x20 = 0 then -1 else x17)) (h12 : x12 = (if x19 = 0 then -1 else if x16 = 0 then 0 else if x24 ≤ 0 then -1 else x24)) : wL_lawOf_436 post mc ms x11 x12 x16 x17 x19 x20 x24 z0 z1 kc ks :=
  br_t h10 (fw_br (fun r => x11 = r) h11 (fun h => fw_452 hp h h12) (fun h => fw_452 hp h h12))
theorem fw_410 {post : Int32 → St0 → Prop} {mc ms kc ks : Nat} {x10 x11 x12 x16 x17 x19 x20 x21 x24 z0 z1 : Int32} (hp : post 1 ()) (h9 : z1 = z0) (h10 : x10 = (if x20 = 0 then -1 else if x19 = 0 then -1 else if x21 ≤ 0 then -1 else x21)) (h11 : x11 = (if x20 = 0 then -1 else x17)) (h12 : x12 = (if x19 = 0 then -1 else if x16 = 0 then 0 else if x24 ≤ 0 then -1 else x24)) : wL_lawOf_410 post mc ms x10 x11 x12 x16 x17 x19 x20 x21 x24 z0 z1 kc ks :=
  br_t h9 (fw_br (fun r => x10 = r) h10 (fun h => fw_436 hp h h11 h12) (fun h => fw_br (fun r => x10 = r) h (fun h => fw_436 hp h h11 h12) (fun h => fw_br (fun r => x10 = r) h (fun h => fw_436 hp h h11 h12) (fun h => fw_436 hp h h11 h12))))
theorem fw_394 {post : Int32 → St0 → Prop} {mc ms kc ks : Nat} {x9 x10 x11 x12 x16 x17 x18 x19 x20 x21 x24 z0 z1 : Int32} (hp : post 1 ()) (h8 : z1 = z0) (h9 : x9 = (if x16 = 0 then 0 else x18)) (h10 : x10 = (if x20 = 0 then -1 else if x19 = 0 then -1 else if x21 ≤ 0 then -1 else x21)) (h11 : x11 = (if x20 = 0 then -1 else x17)) (h12 : x12 = (if x19 = 0 then -1 else if x16 = 0 then 0 else if x24 ≤ 0 then -1 else x24)) : wL_lawOf_394 post mc ms x9 x10 x11 x12 x16 x17 x18 x19 x20 x21 x24 z0 z1 kc ks :=
  br_t h8 (fw_br (fun r => x9 = r) h9 (fun h => fw_410 hp h h10 h11 h12) (fun h => fw_410 hp h h10 h11 h12))
theorem fw_373 {post : Int32 → St0 → Prop} {mc ms kc ks : Nat} {x8 x9 x10 x11 x12 x16 x17 x18 x19 x20 x21 x24 z0 z1 : Int32} (hp : post 1 ()) (h7 : z1 = z0) (h8 : x8 = (if x20 = 0 then -1 else if x19 = 0 then -1 else x21)) (h9 : x9 = (if x16 = 0 then 0 else x18)) (h10 : x10 = (if x20 = 0 then -1 else if x19 = 0 then -1 else if x21 ≤ 0 then -1 else x21)) (h11 : x11 = (if x20 = 0 then -1 else x17)) (h12 : x12 = (if x19 = 0 then -1 else if x16 = 0 then 0 else if x24 ≤ 0 then -1 else x24)) : wL_lawOf_373 post mc ms x8 x9 x10 x11 x12 x16 x17 x18 x19 x20 x21 x24 z0 z1 kc ks :=
  br_t h7 (fw_br (fun r => x8 = r) h8 (fun h => fw_394 hp h h9 h10 h11 h12) (fun h => fw_br (fun r => x8 = r) h (fun h => fw_394 hp h h9 h10 h11 h12) (fun h => fw_394 hp h h9 h10 h11 h12)))
def fw_OK (x7 x8 x9 x10 x11 x12 x16 x17 x18 x19 x20 x21 x24 : Int32) : Prop :=
  x7 = (if x16 = 0 then -1 else 0) ∧ x8 = (if x20 = 0 then -1 else if x19 = 0 then -1 else x21) ∧ x9 = (if x16 = 0 then 0 else x18) ∧ x10 = (if x20 = 0 then -1 else if x19 = 0 then -1 else if x21 ≤ 0 then -1 else x21) ∧ x11 = (if x20 = 0 then -1 else x17) ∧ x12 = (if x19 = 0 then -1 else if x16 = 0 then 0 else if x24 ≤ 0 then -1 else x24)
theorem fw_359 {post : Int32 → St0 → Prop} {mc ms kc ks : Nat} {x7 x8 x9 x10 x11 x12 x16 x17 x18 x19 x20 x21 x24 : Int32} (hp : post 1 ()) (h : fw_OK x7 x8 x9 x10 x11 x12 x16 x17 x18 x19 x20 x21 x24) : wL_lawOf_359 post mc ms x7 x8 x9 x10 x11 x12 x16 x17 x18 x19 x20 x21 x24 kc ks := by
  obtain ⟨h7, h8, h9, h10, h11, h12⟩ := h
  exact fw_br (fun r => x7 = r) h7 (fun h => fw_373 hp h h8 h9 h10 h11 h12) (fun h => fw_373 hp h h8 h9 h10 h11 h12)
def fw_rest (p q : Int32) : Int32 := if p ≤ 0 then q else if q = 0 then p else if q < p then q else p
def fw_q (m y z : Int32) : Int32 := if m = 2 then y else z
def fw_p (m a y : Int32) : Int32 := if m = 0 then y else a
def fw_t (m a y z : Int32) : Int32 := if m = 0 then a else if m = 1 then y else z
def fw_is (g j : Int32) : Int32 := if g = 0 then 0 else if j = 0 then 1 else 0
def fw_isM (m n : Int32) : Int32 := if m < 0 then 0 else if n ≤ m then 0 else 1
def fw_low (f a y z : Int32) : Int32 := if f = 0 then a else if f = 1 then y else z
def fw_F199 (y z : Int32) : Int32 := if y ≤ 0 then 2 else if z = 0 then 1 else if z < y then 2 else 1
def fw_F184 (a y z : Int32) : Int32 := if z = 0 then 0 else if z < a then fw_F199 y z else 0
def fw_F (a y z : Int32) : Int32 := if a ≤ 0 then fw_F199 y z else if y = 0 then fw_F184 a y z else if y < a then fw_F199 y z else fw_F184 a y z
def fw_G (a y z : Int32) : Int32 := if a < 0 then 0 else if 15 < a then 0 else if y < 0 then 0 else if 15 < y then 0 else if z < 0 then 0 else if 15 < z then 0 else if 0 < a then 1 else if 0 < y then 1 else if z ≤ 0 then 0 else 1
theorem fw_333 {post : Int32 → St0 → Prop} {mc ms kc ks : Nat} {x7 x8 x9 x10 x11 x12 x16 x17 x18 x19 x20 x21 x22 z0 : Int32} (hp : post 1 ()) (h : fw_OK x7 x8 x9 x10 x11 x12 x16 x17 x18 x19 x20 x21 (fw_rest x22 z0)) : wL_lawOf_333 post mc ms x7 x8 x9 x10 x11 x12 x16 x17 x18 x19 x20 x21 x22 z0 kc ks := by
  unfold fw_rest at h
  exact fw_br (fun r => fw_OK x7 x8 x9 x10 x11 x12 x16 x17 x18 x19 x20 x21 r) h (fun h => fw_359 hp h) (fun h => fw_br (fun r => fw_OK x7 x8 x9 x10 x11 x12 x16 x17 x18 x19 x20 x21 r) h (fun h => fw_359 hp h) (fun h => fw_br (fun r => fw_OK x7 x8 x9 x10 x11 x12 x16 x17 x18 x19 x20 x21 r) h (fun h => fw_359 hp h) (fun h => fw_359 hp h)))
theorem fw_318 {post : Int32 → St0 → Prop} {mc ms kc ks : Nat} {x5 x7 x8 x9 x10 x11 x12 x14 x15 x16 x17 x18 x19 x20 x21 z0 : Int32} (hp : post 1 ()) (h : fw_OK x7 x8 x9 x10 x11 x12 x16 x17 x18 x19 x20 x21 (fw_rest z0 (fw_q x5 x14 x15))) : wL_lawOf_318 post mc ms x5 x7 x8 x9 x10 x11 x12 x14 x15 x16 x17 x18 x19 x20 x21 z0 kc ks := by
  unfold fw_q at h
  exact fw_br (fun r => fw_OK x7 x8 x9 x10 x11 x12 x16 x17 x18 x19 x20 x21 (fw_rest z0 r)) h (fun h => fw_333 hp h) (fun h => fw_333 hp h)
theorem fw_305 {post : Int32 → St0 → Prop} {mc ms kc ks : Nat} {x1 x5 x7 x8 x9 x10 x11 x12 x14 x15 x16 x17 x18 x19 x20 x21 : Int32} (hp : post 1 ()) (h : fw_OK x7 x8 x9 x10 x11 x12 x16 x17 x18 x19 x20 x21 (fw_rest (fw_p x5 x1 x14) (fw_q x5 x14 x15))) : wL_lawOf_305 post mc ms x1 x5 x7 x8 x9 x10 x11 x12 x14 x15 x16 x17 x18 x19 x20 x21 kc ks := by
  unfold fw_p at h
  exact fw_br (fun r => fw_OK x7 x8 x9 x10 x11 x12 x16 x17 x18 x19 x20 x21 (fw_rest r (fw_q x5 x14 x15))) h (fun h => fw_318 hp h) (fun h => fw_318 hp h)
theorem fw_281 {post : Int32 → St0 → Prop} {mc ms kc ks : Nat} {x1 x5 x7 x8 x9 x10 x11 x12 x14 x15 x16 x17 x18 x19 x20 : Int32} (hp : post 1 ()) (h : fw_OK x7 x8 x9 x10 x11 x12 x16 x17 x18 x19 x20 (fw_t x5 x1 x14 x15) (fw_rest (fw_p x5 x1 x14) (fw_q x5 x14 x15))) : wL_lawOf_281 post mc ms x1 x5 x7 x8 x9 x10 x11 x12 x14 x15 x16 x17 x18 x19 x20 kc ks := by
  unfold fw_t at h
  exact fw_br (fun r => fw_OK x7 x8 x9 x10 x11 x12 x16 x17 x18 x19 x20 r (fw_rest (fw_p x5 x1 x14) (fw_q x5 x14 x15))) h (fun h => fw_305 hp h) (fun h => fw_br (fun r => fw_OK x7 x8 x9 x10 x11 x12 x16 x17 x18 x19 x20 r (fw_rest (fw_p x5 x1 x14) (fw_q x5 x14 x15))) h (fun h => fw_305 hp h) (fun h => fw_305 hp h))
theorem fw_264 {post : Int32 → St0 → Prop} {mc ms kc ks : Nat} {x1 x4 x5 x7 x8 x9 x10 x11 x12 x14 x15 x16 x17 x18 x19 : Int32} (hp : post 1 ()) (h : fw_OK x7 x8 x9 x10 x11 x12 x16 x17 x18 x19 (fw_is x16 x4) (fw_t x5 x1 x14 x15) (fw_rest (fw_p x5 x1 x14) (fw_q x5 x14 x15))) : wL_lawOf_264 post mc ms x1 x4 x5 x7 x8 x9 x10 x11 x12 x14 x15 x16 x17 x18 x19 kc ks := by
  unfold fw_is at h
  exact fw_br (fun r => fw_OK x7 x8 x9 x10 x11 x12 x16 x17 x18 x19 r (fw_t x5 x1 x14 x15) (fw_rest (fw_p x5 x1 x14) (fw_q x5 x14 x15))) h (fun h => fw_281 hp h) (fun h => fw_br (fun r => fw_OK x7 x8 x9 x10 x11 x12 x16 x17 x18 x19 r (fw_t x5 x1 x14 x15) (fw_rest (fw_p x5 x1 x14) (fw_q x5 x14 x15))) h (fun h => fw_281 hp h) (fun h => fw_281 hp h))
theorem fw_245 {post : Int32 → St0 → Prop} {mc ms kc ks : Nat} {x1 x4 x5 x7 x8 x9 x10 x11 x12 x13 x14 x15 x16 x17 x18 : Int32} (hp : post 1 ()) (h : fw_OK x7 x8 x9 x10 x11 x12 x16 x17 x18 (fw_isM x5 x13) (fw_is x16 x4) (fw_t x5 x1 x14 x15) (fw_rest (fw_p x5 x1 x14) (fw_q x5 x14 x15))) : wL_lawOf_245 post mc ms x1 x4 x5 x7 x8 x9 x10 x11 x12 x13 x14 x15 x16 x17 x18 kc ks := by
  unfold fw_isM at h
  exact fw_br (fun r => fw_OK x7 x8 x9 x10 x11 x12 x16 x17 x18 r (fw_is x16 x4) (fw_t x5 x1 x14 x15) (fw_rest (fw_p x5 x1 x14) (fw_q x5 x14 x15))) h (fun h => fw_264 hp h) (fun h => fw_br (fun r => fw_OK x7 x8 x9 x10 x11 x12 x16 x17 x18 r (fw_is x16 x4) (fw_t x5 x1 x14 x15) (fw_rest (fw_p x5 x1 x14) (fw_q x5 x14 x15))) h (fun h => fw_264 hp h) (fun h => fw_264 hp h))
/-- all that is asked, given first (f) and good (g) -/
def fw_A (x1 x4 x5 x7 x8 x9 x10 x11 x12 x13 x14 x15 g f : Int32) : Prop := fw_OK x7 x8 x9 x10 x11 x12 g f (fw_low f x1 x14 x15) (fw_isM x5 x13) (fw_is g x4) (fw_t x5 x1 x14 x15) (fw_rest (fw_p x5 x1 x14) (fw_q x5 x14 x15))
theorem fw_221 {post : Int32 → St0 → Prop} {mc ms kc ks : Nat} {x1 x4 x5 x7 x8 x9 x10 x11 x12 x13 x14 x15 x16 x17 : Int32} (hp : post 1 ()) (h : fw_A x1 x4 x5 x7 x8 x9 x10 x11 x12 x13 x14 x15 x16 x17) : wL_lawOf_221 post mc ms x1 x4 x5 x7 x8 x9 x10 x11 x12 x13 x14 x15 x16 x17 kc ks := by
  unfold fw_A fw_low at h
  exact fw_br (fun r => fw_OK x7 x8 x9 x10 x11 x12 x16 x17 r (fw_isM x5 x13) (fw_is x16 x4) (fw_t x5 x1 x14 x15) (fw_rest (fw_p x5 x1 x14) (fw_q x5 x14 x15))) h (fun h => fw_245 hp h) (fun h => fw_br (fun r => fw_OK x7 x8 x9 x10 x11 x12 x16 x17 r (fw_isM x5 x13) (fw_is x16 x4) (fw_t x5 x1 x14 x15) (fw_rest (fw_p x5 x1 x14) (fw_q x5 x14 x15))) h (fun h => fw_245 hp h) (fun h => fw_245 hp h))
theorem fw_199 {post : Int32 → St0 → Prop} {mc ms kc ks : Nat} {x1 x4 x5 x7 x8 x9 x10 x11 x12 x13 x14 x15 x16 : Int32} (hp : post 1 ()) (h : fw_A x1 x4 x5 x7 x8 x9 x10 x11 x12 x13 x14 x15 x16 (fw_F199 x14 x15)) : wL_lawOf_199 post mc ms x1 x4 x5 x7 x8 x9 x10 x11 x12 x13 x14 x15 x16 kc ks := by
  unfold fw_F199 at h
  exact fw_br (fun r => fw_A x1 x4 x5 x7 x8 x9 x10 x11 x12 x13 x14 x15 x16 r) h (fun h => fw_221 hp h) (fun h => fw_br (fun r => fw_A x1 x4 x5 x7 x8 x9 x10 x11 x12 x13 x14 x15 x16 r) h (fun h => fw_221 hp h) (fun h => fw_br (fun r => fw_A x1 x4 x5 x7 x8 x9 x10 x11 x12 x13 x14 x15 x16 r) h (fun h => fw_221 hp h) (fun h => fw_221 hp h)))
theorem fw_184 {post : Int32 → St0 → Prop} {mc ms kc ks : Nat} {x1 x4 x5 x7 x8 x9 x10 x11 x12 x13 x14 x15 x16 : Int32} (hp : post 1 ()) (h : fw_A x1 x4 x5 x7 x8 x9 x10 x11 x12 x13 x14 x15 x16 (fw_F184 x1 x14 x15)) : wL_lawOf_184 post mc ms x1 x4 x5 x7 x8 x9 x10 x11 x12 x13 x14 x15 x16 kc ks := by
  unfold fw_F184 at h
  exact fw_br (fun r => fw_A x1 x4 x5 x7 x8 x9 x10 x11 x12 x13 x14 x15 x16 r) h (fun h => fw_221 hp h) (fun h => fw_br (fun r => fw_A x1 x4 x5 x7 x8 x9 x10 x11 x12 x13 x14 x15 x16 r) h (fun h => fw_199 hp h) (fun h => fw_221 hp h))
theorem fw_167 {post : Int32 → St0 → Prop} {mc ms kc ks : Nat} {x1 x4 x5 x7 x8 x9 x10 x11 x12 x13 x14 x15 x16 : Int32} (hp : post 1 ()) (h : fw_A x1 x4 x5 x7 x8 x9 x10 x11 x12 x13 x14 x15 x16 (fw_F x1 x14 x15)) : wL_lawOf_167 post mc ms x1 x4 x5 x7 x8 x9 x10 x11 x12 x13 x14 x15 x16 kc ks := by
  unfold fw_F at h
  exact fw_br (fun r => fw_A x1 x4 x5 x7 x8 x9 x10 x11 x12 x13 x14 x15 x16 r) h (fun h => fw_199 hp h) (fun h => fw_br (fun r => fw_A x1 x4 x5 x7 x8 x9 x10 x11 x12 x13 x14 x15 x16 r) h (fun h => fw_184 hp h) (fun h => fw_br (fun r => fw_A x1 x4 x5 x7 x8 x9 x10 x11 x12 x13 x14 x15 x16 r) h (fun h => fw_199 hp h) (fun h => fw_184 hp h)))
theorem fw_112 {post : Int32 → St0 → Prop} {mc ms kc ks : Nat} {x1 x4 x5 x7 x8 x9 x10 x11 x12 x13 x14 x15 : Int32} (hp : post 1 ()) (h : fw_A x1 x4 x5 x7 x8 x9 x10 x11 x12 x13 x14 x15 (fw_G x1 x14 x15) (fw_F x1 x14 x15)) : wL_lawOf_112 post mc ms x1 x4 x5 x7 x8 x9 x10 x11 x12 x13 x14 x15 kc ks := by
  have b : ∀ (c : Prop) (_ : Decidable c) (x y : Int32) (A B : Prop), fw_A x1 x4 x5 x7 x8 x9 x10 x11 x12 x13 x14 x15 (if c then x else y) (fw_F x1 x14 x15) → (fw_A x1 x4 x5 x7 x8 x9 x10 x11 x12 x13 x14 x15 x (fw_F x1 x14 x15) → A) → (fw_A x1 x4 x5 x7 x8 x9 x10 x11 x12 x13 x14 x15 y (fw_F x1 x14 x15) → B) → ((c → A) ∧ (¬ c → B)) :=
    fun c _ x y A B h fa fb => fw_br (fun r => fw_A x1 x4 x5 x7 x8 x9 x10 x11 x12 x13 x14 x15 r (fw_F x1 x14 x15)) h fa fb
  unfold fw_G at h
  refine b _ _ _ _ _ _ h (fun h => fw_167 hp h) (fun h => ?_)
  refine b _ _ _ _ _ _ h (fun h => fw_167 hp h) (fun h => ?_)
  refine b _ _ _ _ _ _ h (fun h => fw_167 hp h) (fun h => ?_)
  refine b _ _ _ _ _ _ h (fun h => fw_167 hp h) (fun h => ?_)
  refine b _ _ _ _ _ _ h (fun h => fw_167 hp h) (fun h => ?_)
  refine b _ _ _ _ _ _ h (fun h => fw_167 hp h) (fun h => ?_)
  refine b _ _ _ _ _ _ h (fun h => fw_167 hp h) (fun h => ?_)
  refine b _ _ _ _ _ _ h (fun h => fw_167 hp h) (fun h => ?_)
  exact b _ _ _ _ _ _ h (fun h => fw_167 hp h) (fun h => fw_167 hp h)
theorem fw_86 {post : Int32 → St0 → Prop} {mc ms kc ks : Nat} {x1 x2 x3 x4 x5 x7 x8 x9 x10 x11 x12 x13 y z : Int32} (hp : post 1 ()) (hy : y = if x13 ≤ 1 then 0 else x2) (hz : z = if x13 ≤ 2 then 0 else x3) (h : fw_A x1 x4 x5 x7 x8 x9 x10 x11 x12 x13 y z (fw_G x1 y z) (fw_F x1 y z)) : wL_lawOf_86 post mc ms x1 x2 x3 x4 x5 x7 x8 x9 x10 x11 x12 x13 kc ks := by
  refine br_c (fun c1 => ?_) (fun c1 => ?_)
  · rw [if_pos c1] at hy
    subst hy
    refine br_c (fun c2 => ?_) (fun c2 => ?_)
    · rw [if_pos c2] at hz
      subst hz
      exact fw_112 hp h
    · rw [if_neg c2] at hz
      subst hz
      exact fw_112 hp h
  · rw [if_neg c1] at hy
    subst hy
    refine br_c (fun c2 => ?_) (fun c2 => ?_)
    · rw [if_pos c2] at hz
      subst hz
      exact fw_112 hp h
    · rw [if_neg c2] at hz
      subst hz
      exact fw_112 hp h
end
section
/-! plain facts about the law's if-then-else -/
theorem fw_le {p q : Nat} (hp : p ≤ 15) (hq : q ≤ 15) : nI p ≤ nI q ↔ p ≤ q := nI_leI (by omega) (by omega)
theorem fw_lt {p q : Nat} (hp : p ≤ 15) (hq : q ≤ 15) : nI p < nI q ↔ p < q := nI_ltI (by omega) (by omega)
theorem fw_le0 {p : Nat} (hp : p ≤ 15) : nI p ≤ 0 ↔ p = 0 := by
  have t : nI p ≤ nI 0 ↔ p ≤ 0 := nI_leI (by omega) (by omega)
  rw [nI_0] at t
  rw [t]
  omega
theorem fw_eq0 {p : Nat} (hp : p ≤ 15) : nI p = 0 ↔ p = 0 := by
  have t : nI p = nI 0 ↔ p = 0 := nI_eq (by omega) (by omega)
  rw [nI_0] at t
  exact t
theorem fw_gt0 {p : Nat} (hp : p ≤ 15) : 0 < nI p ↔ 0 < p := by
  have t : nI 0 < nI p ↔ 0 < p := nI_ltI (by omega) (by omega)
  rw [nI_0] at t
  exact t
theorem fw_G1 {a y z : Nat} (ha : a ≤ 15) (hy : y ≤ 15) (hz : z ≤ 15) (h : 0 < a + y + z) : fw_G (nI a) (nI y) (nI z) = 1 := by
  unfold fw_G
  have n15 : ∀ p, p ≤ 15 → ¬ (15 : Int32) < nI p := fun p hp => nI_nlt (a := 15) (b := p) hp (by omega)
  rw [if_neg (nI_pos (by omega)), if_neg (n15 a ha), if_neg (nI_pos (by omega)), if_neg (n15 y hy), if_neg (nI_pos (by omega)), if_neg (n15 z hz)]
  simp only [fw_gt0 ha, fw_gt0 hy, fw_le0 hz]
  repeat' split
  all_goals first | rfl | (exfalso; omega)
theorem fw_G0 {x y z : Int32} (h : ¬ (∃ a b c, ft_G x y z a b c)) : fw_G x y z = 0 := by
  unfold fw_G
  by_cases h1 : x < 0
  · rw [if_pos h1]
  by_cases h2 : 15 < x
  · rw [if_neg h1, if_pos h2]
  by_cases h3 : y < 0
  · rw [if_neg h1, if_neg h2, if_pos h3]
  by_cases h4 : 15 < y
  · rw [if_neg h1, if_neg h2, if_neg h3, if_pos h4]
  by_cases h5 : z < 0
  · rw [if_neg h1, if_neg h2, if_neg h3, if_neg h4, if_pos h5]
  by_cases h6 : 15 < z
  · rw [if_neg h1, if_neg h2, if_neg h3, if_neg h4, if_neg h5, if_pos h6]
  have nn : ∀ u : Int32, ¬ u < 0 → ¬ 15 < u → ∃ j : Nat, j ≤ 15 ∧ u = nI j := fun u g1 g2 => by
    obtain ⟨j, hj, rfl⟩ := nI_of g1
    refine ⟨j, ?_, rfl⟩
    rcases Nat.lt_or_ge 15 j with t | t
    · exact absurd (nI_lt t hj) g2
    · exact t
  obtain ⟨a, ha, rfl⟩ := nn x h1 h2
  obtain ⟨b, hb, rfl⟩ := nn y h3 h4
  obtain ⟨c, hc, rfl⟩ := nn z h5 h6
  have s0 : ¬ 0 < a + b + c := fun t => h ⟨a, b, c, ha, hb, hc, t, rfl, rfl, rfl⟩
  obtain ⟨rfl, rfl, rfl⟩ : a = 0 ∧ b = 0 ∧ c = 0 := by omega
  decide
theorem fw_Fm {T : Nat → Nat} {m : Nat} (h0 : T 0 ≤ 15) (h1 : T 1 ≤ 15) (h2 : T 2 ≤ 15) (hm : m < 3) (hp : 0 < T m) (hmin : ∀ k, k < 3 → 0 < T k → T m ≤ T k) (hf : ∀ k, k < m → 0 < T k → T k ≠ T m) : fw_F (nI (T 0)) (nI (T 1)) (nI (T 2)) = nI m ∧ fw_low (nI m) (nI (T 0)) (nI (T 1)) (nI (T 2)) = nI (T m) := by
  have m0 := hmin 0 (by omega)
  have m1 := hmin 1 (by omega)
  have m2 := hmin 2 (by omega)
  have f0 := hf 0
  have f1 := hf 1
  have hm' : m = 0 ∨ m = 1 ∨ m = 2 := by omega
  constructor
  · unfold fw_F fw_F184 fw_F199
    simp only [fw_le0 h0, fw_le0 h1, fw_eq0 h1, fw_eq0 h2, fw_lt h2 h0, fw_lt h2 h1, fw_lt h1 h0]
    rcases hm' with rfl | rfl | rfl
    all_goals
      repeat' split
      all_goals first | rfl | (exfalso; omega)
  · rcases hm' with rfl | rfl | rfl <;> rfl
def fw_rN (p q : Nat) : Nat := if p = 0 then q else if q = 0 then p else if q < p then q else p
theorem fw_restN {p q : Nat} (hp : p ≤ 15) (hq : q ≤ 15) : fw_rest (nI p) (nI q) = nI (fw_rN p q) := by
  unfold fw_rest fw_rN
  simp only [fw_le0 hp, fw_eq0 hq, fw_lt hq hp]
  repeat' split
  all_goals rfl
theorem fw_isM1 {m n : Nat} (h : m < n) (hn : n ≤ 3) : fw_isM (nI m) (nI n) = 1 := by
  unfold fw_isM
  rw [if_neg (nI_pos (by omega)), if_neg (nI_ge h (by omega))]
theorem fw_isM0 {x : Int32} {n : Nat} (h : ∀ m, m < n → x ≠ nI m) : fw_isM x (nI n) = 0 := by
  unfold fw_isM
  by_cases h1 : x < 0
  · rw [if_pos h1]
  by_cases h2 : nI n ≤ x
  · rw [if_neg h1, if_pos h2]
  exfalso
  obtain ⟨j, hj, rfl⟩ := nI_of h1
  refine h j ?_ rfl
  rcases Nat.lt_or_ge j n with t | t
  · exact t
  · exact absurd (nI_le t hj) h2
theorem fw_bad {n : Nat} {x1 x4 x5 x12 y z f : Int32} (hn : n ≤ 3) (h12 : ((∀ m, m < n → x5 ≠ nI m) ∧ x12 = -1) ∨ ((∃ m, m < n ∧ x5 = nI m) ∧ x12 = 0)) : fw_A x1 x4 x5 (-1) (-1) 0 (-1) (-1) x12 (nI n) y z 0 f := by
  unfold fw_A fw_OK fw_is
  refine ⟨rfl, rfl, rfl, rfl, rfl, ?_⟩
  rcases h12 with ⟨h, e⟩ | ⟨⟨m, hm, hx⟩, e⟩
  · rw [fw_isM0 h, if_pos rfl, e]
  · rw [hx, fw_isM1 hm hn, if_neg (by decide), if_pos rfl, e]
/-- the machines other than m: the least time among them, or none -/
theorem fw_idleN {n m w : Nat} {T : Nat → Nat} {r : Int32} (h0 : T 0 ≤ 15) (h1 : T 1 ≤ 15) (h2 : T 2 ≤ 15) (hn : n ≤ 3) (hz : ∀ k, n ≤ k → k < 3 → T k = 0) (hm : m < n) (hw : ∀ k, k < n → (Nat.testBit w k = true ↔ (0 < T k ∧ k ≠ m))) (hR : ft_R n 1 w T r) : r = if fw_rest (fw_p (nI m) (nI (T 0)) (nI (T 1))) (fw_q (nI m) (nI (T 1)) (nI (T 2))) ≤ 0 then -1 else fw_rest (fw_p (nI m) (nI (T 0)) (nI (T 1))) (fw_q (nI m) (nI (T 1)) (nI (T 2))) := by
  have main : ∀ p q : Nat, p < 3 → q < 3 → p ≠ q → p ≠ m → q ≠ m → m < 3 → r = if fw_rest (nI (T p)) (nI (T q)) ≤ 0 then -1 else fw_rest (nI (T p)) (nI (T q)) := by
    intro p q hp hq hpq hpm hqm hm3
    have b : ∀ k, k < 3 → T k ≤ 15 := fun k hk => by
      have : k = 0 ∨ k = 1 ∨ k = 2 := by omega
      rcases this with rfl | rfl | rfl <;> assumption
    have bp := b p hp
    have bq := b q hq
    have br : fw_rN (T p) (T q) ≤ 15 := by
      unfold fw_rN
      repeat' split
      all_goals omega
    rw [fw_restN bp bq]
    rcases hR with ⟨e, _⟩ | ⟨_, ⟨k, hk, hb, hr, hmin⟩ | ⟨hno, hr⟩⟩
    · exact absurd e (by decide)
    · obtain ⟨hk0, hkm⟩ := (hw k hk).mp hb
      have lp : 0 < T p → T k ≤ T p := fun t => by
        have : p < n := by
          rcases Nat.lt_or_ge p n with g | g
          · exact g
          · have := hz p g hp
            omega
        exact hmin p this ((hw p this).mpr ⟨t, hpm⟩)
      have lq : 0 < T q → T k ≤ T q := fun t => by
        have : q < n := by
          rcases Nat.lt_or_ge q n with g | g
          · exact g
          · have := hz q g hq
            omega
        exact hmin q this ((hw q this).mpr ⟨t, hqm⟩)
      have ek : T k = fw_rN (T p) (T q) := by
        have kk : k = p ∨ k = q := by omega
        unfold fw_rN
        rcases kk with rfl | rfl
        all_goals
          repeat' split
          all_goals omega
      rw [if_neg (fun t => by have := (fw_le0 br).mp t; omega), hr, ek]
    · have zp : T p = 0 := by
        rcases Nat.lt_or_ge p n with g | g
        · rcases Nat.eq_zero_or_pos (T p) with t | t
          · exact t
          · have u := hno p g
            rw [(hw p g).mpr ⟨t, hpm⟩] at u
            exact absurd u (by decide)
        · exact hz p g hp
      have zq : T q = 0 := by
        rcases Nat.lt_or_ge q n with g | g
        · rcases Nat.eq_zero_or_pos (T q) with t | t
          · exact t
          · have u := hno q g
            rw [(hw q g).mpr ⟨t, hqm⟩] at u
            exact absurd u (by decide)
        · exact hz q g hq
      rw [zp, zq, hr]
      decide
  have hm' : m = 0 ∨ m = 1 ∨ m = 2 := by omega
  rcases hm' with rfl | rfl | rfl
  · exact main 1 2 (by omega) (by omega) (by omega) (by omega) (by omega) (by omega)
  · exact main 0 2 (by omega) (by omega) (by omega) (by omega) (by omega) (by omega)
  · exact main 0 1 (by omega) (by omega) (by omega) (by omega) (by omega) (by omega)
theorem fw_good {n : Nat} {T : Nat → Nat} {x4 x5 x8 x9 x10 x11 x12 : Int32} {b10 : Nat → Int32} (hn : n ≤ 3) (h0 : T 0 ≤ 15) (h1 : T 1 ≤ 15) (h2 : T 2 ≤ 15) (hz : ∀ k, n ≤ k → k < 3 → T k = 0)
    (h8 : (∃ m, 1 = 1 ∧ x4 = nI 0 ∧ m < n ∧ x5 = nI m ∧ x8 = nI (T m)) ∨ (¬ (1 = 1 ∧ x4 = nI 0 ∧ ∃ m, m < n ∧ x5 = nI m) ∧ x8 = -1))
    (h9 : ft_L n 1 T x9 b10)
    (h10 : (∃ m, 1 = 1 ∧ x4 = nI 0 ∧ m < n ∧ x5 = nI m ∧ 0 < T m ∧ x10 = nI (T m)) ∨ (¬ (∃ m, 1 = 1 ∧ x4 = nI 0 ∧ m < n ∧ x5 = nI m ∧ 0 < T m) ∧ x10 = -1))
    (h11 : (1 = 1 ∧ x4 = nI 0 ∧ x11 = b10 0) ∨ (¬ (1 = 1 ∧ x4 = nI 0) ∧ x11 = -1))
    (h12 : ((∀ m, m < n → x5 ≠ nI m) ∧ x12 = -1) ∨ (∃ m w, m < n ∧ x5 = nI m ∧ (∀ k, k < n → (Nat.testBit w k = true ↔ (0 < T k ∧ k ≠ m))) ∧ ft_R n 1 w T x12)) :
    fw_A (nI (T 0)) x4 x5 0 x8 x9 x10 x11 x12 (nI n) (nI (T 1)) (nI (T 2)) 1 (fw_F (nI (T 0)) (nI (T 1)) (nI (T 2))) := by
  rcases h9 with ⟨e, _⟩ | ⟨_, b, hb, hb0, hlt, hb10, hmin, hfst⟩
  · exact absurd e (by decide)
  obtain ⟨eF, eL⟩ := fw_Fm h0 h1 h2 (show b < 3 by omega) hb0 (fun k hk hk0 => by
    rcases Nat.lt_or_ge k n with g | g
    · exact hmin k g hk0
    · have := hz k g hk
      omega) hfst
  unfold fw_A fw_OK
  rw [eF, eL, hlt]
  have e1 : ¬ (1 : Int32) = 0 := by decide
  have eis : fw_is 1 x4 = if x4 = nI 0 then 1 else 0 := by
    unfold fw_is
    rw [if_neg e1]
    rfl
  have hT15 : ∀ k, k < 3 → T k ≤ 15 := fun k hk => by
    have : k = 0 ∨ k = 1 ∨ k = 2 := by omega
    rcases this with rfl | rfl | rfl <;> assumption
  rw [eis]
  simp only [if_neg e1]
  refine ⟨trivial, ?_, trivial, ?_, ?_, ?_⟩
  · rcases h8 with ⟨m, _, hj, hm, hx, e⟩ | ⟨hno, e⟩
    · have et : fw_t x5 (nI (T 0)) (nI (T 1)) (nI (T 2)) = nI (T m) := by
        rw [hx]
        have : m = 0 ∨ m = 1 ∨ m = 2 := by omega
        rcases this with rfl | rfl | rfl <;> rfl
      rw [if_pos hj, if_neg e1, et, hx, fw_isM1 hm hn, if_neg e1, e]
    · by_cases hj : x4 = nI 0
      · rw [if_pos hj, if_neg e1, fw_isM0 (fun m hm hx => hno ⟨rfl, hj, m, hm, hx⟩), if_pos rfl, e]
      · rw [if_neg hj, if_pos rfl, e]
  · by_cases hj : x4 = nI 0
    · rw [if_pos hj, if_neg e1]
      by_cases hx : ∃ m, m < n ∧ x5 = nI m
      · obtain ⟨m, hm, hx⟩ := hx
        have et : fw_t x5 (nI (T 0)) (nI (T 1)) (nI (T 2)) = nI (T m) := by
          rw [hx]
          have : m = 0 ∨ m = 1 ∨ m = 2 := by omega
          rcases this with rfl | rfl | rfl <;> rfl
        have t15 := hT15 m (by omega)
        rw [et, hx, fw_isM1 hm hn, if_neg e1]
        rcases h10 with ⟨k, _, _, hk, hx', hk0, e⟩ | ⟨hno, e⟩
        · have ek : m = k := (nI_eq (by omega) (by omega)).mp (hx.symm.trans hx')
          rw [← ek] at hk0 e
          rw [if_neg (fun t => by have := (fw_le0 t15).mp t; omega), e]
        · have t0 : T m = 0 := by
            rcases Nat.eq_zero_or_pos (T m) with t | t
            · exact t
            · exact absurd ⟨m, rfl, hj, hm, hx, t⟩ hno
          rw [if_pos ((fw_le0 t15).mpr t0), e]
      · rw [fw_isM0 (fun m hm hx' => hx ⟨m, hm, hx'⟩), if_pos rfl]
        rcases h10 with ⟨k, _, _, hk, hx', _, _⟩ | ⟨_, e⟩
        · exact absurd ⟨k, hk, hx'⟩ hx
        · exact e
    · rw [if_neg hj, if_pos rfl]
      rcases h10 with ⟨k, _, hj', _⟩ | ⟨_, e⟩
      · exact absurd hj' hj
      · exact e
  · rcases h11 with ⟨_, hj, e⟩ | ⟨hno, e⟩
    · rw [if_pos hj, if_neg e1, e, hb10]
    · rw [if_neg (fun hj => hno ⟨rfl, hj⟩), if_pos rfl, e]
  · rcases h12 with ⟨hno, e⟩ | ⟨m, w, hm, hx, hw, hR⟩
    · rw [fw_isM0 hno, if_pos rfl, e]
    · rw [hx, fw_isM1 hm hn, if_neg e1]
      exact fw_idleN h0 h1 h2 hn hz hm hw hR
/-! the law -/
theorem fw_time {post : Int32 → Prop} {n g : Nat} {T : Nat → Nat} {p0 p1 : Int32} {fD fK fR fC fN fL : Int32} {a1 a2 a3 a4 a5 a6 a7 a8 a9 a10 : Nat → Int32} (hn : n ≤ 3) (hg : g ≤ 1) (hT : ∀ k, k < 15 → a1 k = nI (T k) ∧ T k ≤ 15) (H : ∀ r, ((∃ m, g = 1 ∧ p0 = nI 0 ∧ m < n ∧ p1 = nI m ∧ r = nI (T m)) ∨ (¬ (g = 1 ∧ p0 = nI 0 ∧ ∃ m, m < n ∧ p1 = nI m) ∧ r = -1)) → post r) : wpX_time post ((nI n), (nI g), fD, fK, fR, fC, fN, fL, a1, a2, a3, a4, a5, a6, a7, a8, a9, a10) p0 p1 :=
  ft_time hn hg hT (fun m h1 h2 h3 h4 => H _ (Or.inl ⟨m, h1, h2, h3, h4, rfl⟩)) (fun h => H _ (Or.inr ⟨h, rfl⟩))
theorem fw_mof {post : Int32 → St2 → Prop} {g : Nat} {p0 : Int32} {fM fD fK fR fC fL : Int32} {a1 a2 a3 a4 a5 a6 a7 a8 a9 a10 : Nat → Int32} (hg : g ≤ 1) (H : ∀ r, ((g = 1 ∧ p0 = nI 0 ∧ r = a10 0) ∨ (¬ (g = 1 ∧ p0 = nI 0) ∧ r = -1)) → post r (fM, (nI g), fD, fK, fR, fC, 1, fL, a1, a2, a3, a4, a5, a6, a7, a8, a9, a10)) : wpX_machineOf post (fM, (nI g), fD, fK, fR, fC, 1, fL, a1, a2, a3, a4, a5, a6, a7, a8, a9, a10) p0 :=
  ft_mof hg (fun h1 h2 => H _ (Or.inl ⟨h1, h2, rfl⟩)) (fun h => H _ (Or.inr ⟨h, rfl⟩))
theorem fw_cell {post : Int32 → Prop} {L k : Nat} {xs : Nat → Int32} (hL : L ≤ 6) (hk : k ≤ 5) (H : ∀ r, post r) : wpL_cellAt post L xs () (nI k) :=
  pk_le L k (fun _ => H _) (fun z => ⟨pk_in k L z, H _⟩)
def fw_cl (p0 : Int32) : Int32 := if 1 ≤ p0 then (if p0 ≤ 3 then p0 else 3) else 1
theorem fw_init {post : St2 → Prop} {mc ms : Nat} {p0 : Int32} {fM fP fD fK fR fC fN fL : Int32} (hmc : 10 ≤ mc) (hms : 157 ≤ ms) (H : ∀ n : Nat, 1 ≤ n → n ≤ 3 → nI n = fw_cl p0 → post (nI n, fP, fD, fK, fR, fC, fN, fL, (fun _ => 0), (fun _ => 0), (fun _ => 0), (fun _ => 0), (fun _ => 0), (fun _ => 0), (fun _ => 0), (fun _ => 0), (fun _ => 0), (fun _ => 0))) : wpX_init post mc ms (fM, fP, fD, fK, fR, fC, fN, fL) p0 := by
  unfold wpX_init
  refine ⟨by omega, by omega, by omega, by omega, by omega, by omega, by omega, by omega, by omega, by omega, by omega, by omega, by omega, by omega, by omega, by omega, by omega, by omega, by omega, by omega, br_c (fun c1 => br_c (fun c2 => ?_) (fun c2 => ?_)) (fun c1 => ?_)⟩
  · have t1 := Int32.le_iff_toInt_le.mp c1
    have e1 : (1 : Int32).toInt = 1 := by decide
    have z : ¬ p0 < 0 := fun t => by
      have t0 := Int32.lt_iff_toInt_lt.mp t
      have e0 : (0 : Int32).toInt = 0 := by decide
      omega
    obtain ⟨j, hj, e⟩ := nI_of2 (M := 3) (n := 3) (by decide) z c2
    subst e
    refine H j ?_ hj ?_
    · rw [nI_toInt (by omega)] at t1
      omega
    · unfold fw_cl
      rw [if_pos c1, if_pos c2]
  · exact H 3 (by omega) (by omega) (by unfold fw_cl; rw [if_pos c1, if_neg c2]; rfl)
  · exact H 1 (by omega) (by omega) (by unfold fw_cl; rw [if_neg c1]; rfl)
theorem fw_pick {p0 x : Int32} (P : Int32 → Prop) (hc : x = fw_cl p0) (h : P x) : (1 ≤ p0 → ((p0 ≤ 3 → P p0) ∧ (¬ p0 ≤ 3 → P 3))) ∧ (¬ 1 ≤ p0 → P 1) := by
  unfold fw_cl at hc
  refine br_c (fun c1 => br_c (fun c2 => ?_) (fun c2 => ?_)) (fun c1 => ?_)
  · rw [if_pos c1, if_pos c2] at hc
    rw [← hc]
    exact h
  · rw [if_pos c1, if_neg c2] at hc
    rw [← hc]
    exact h
  · rw [if_neg c1] at hc
    rw [← hc]
    exact h
def fw_T (a y z : Nat) (k : Nat) : Nat := if k = 0 then a else if k = 1 then y else if k = 2 then z else 0
theorem fw_TA {a y z : Nat} (ha : a ≤ 15) (hy : y ≤ 15) (hz : z ≤ 15) : ∀ k, k < 15 → upd (upd (upd (fun _ => 0) 0 (nI a)) 1 (nI y)) 2 (nI z) k = nI (fw_T a y z k) ∧ fw_T a y z k ≤ 15 := by
  intro k _
  unfold fw_T upd
  by_cases k0 : k = 0
  · subst k0
    exact ⟨rfl, ha⟩
  by_cases k1 : k = 1
  · subst k1
    exact ⟨rfl, hy⟩
  by_cases k2 : k = 2
  · subst k2
    exact ⟨rfl, hz⟩
  simp only [if_neg k0, if_neg k1, if_neg k2]
  exact ⟨rfl, by omega⟩
theorem fw_law {post : Int32 → St0 → Prop} (hp : post 1 ()) (p0 p1 p2 p3 p4 p5 : Int32) : wpL_lawOf post 72 1152 () p0 p1 p2 p3 p4 p5 := by
  refine ⟨by omega, by omega, 10, 157, by omega, by omega, fw_init (by omega) (by omega) (fun n hn1 hn hcl => ?_)⟩
  refine ft_add hn rfl rfl (fun a y z hG => ?_) (fun hno => ?_)
  · obtain ⟨ha, hy, hz, hs, ea, ey, ez⟩ := hG
    have hT := fw_TA ha hy hz
    have zz : ∀ k, n ≤ k → k < 3 → fw_T a y z k = 0 := by
      intro k hk hk3
      have kk : k = 1 ∨ k = 2 := by omega
      rcases kk with rfl | rfl
      · show y = 0
        rw [if_pos (show nI n ≤ 1 from nI_le (b := 1) hk (by omega))] at ey
        exact (fw_eq0 hy).mp ey.symm
      · show z = 0
        rw [if_pos (show nI n ≤ 2 from nI_le (b := 2) hk (by omega))] at ez
        exact (fw_eq0 hz).mp ez.symm
    have hgood : 1 = 1 → ∃ m, m < n ∧ 0 < fw_T a y z m := fun _ => by
      have pos : ∀ k, k < 3 → 0 < fw_T a y z k → ∃ m, m < n ∧ 0 < fw_T a y z m := fun k hk t => by
        rcases Nat.lt_or_ge k n with g | g
        · exact ⟨k, g, t⟩
        · have := zz k g hk
          omega
      rcases Nat.eq_zero_or_pos a with a0 | a0
      · rcases Nat.eq_zero_or_pos y with y0 | y0
        · exact pos 2 (by omega) (show 0 < z by omega)
        · exact pos 1 (by omega) y0
      · exact pos 0 (by omega) a0
    refine fw_time (g := 1) hn (by omega) hT (fun r8 h8 => ?_)
    refine ft_least (g := 1) hn1 hn (by omega) hT hgood (fun r9 cR cC b2 b3 b4 b5 b6 b7 b8 b9 b10 h9 => ?_)
    refine ft_with (g := 1) hn1 hn (by omega) hT (fun r10 cD cK cR cC b2 b3 b4 b5 b6 b7 b8 b9 h10 => ?_)
    refine fw_mof (g := 1) (by omega) (fun r11 h11 => ?_)
    refine ft_idle (g := 1) hn1 hn (by omega) hT (fun r12 cD cK cR cC b2 b3 b4 b5 b6 b7 b8 b9 h12 => ?_)
    refine fw_pick (fun x => wL_lawOf_86 post 72 1152 p1 p2 p3 p4 p5 0 r8 r9 r10 r11 r12 x (1 + 10) (18 + 157)) hcl (fw_86 hp rfl rfl ?_)
    rw [ea, ey, ez, fw_G1 ha hy hz hs]
    exact fw_good (T := fw_T a y z) hn ha hy hz zz h8 h9 h10 h11 h12
  · have hT : ∀ k, k < 15 → (fun _ : Nat => (0 : Int32)) k = nI ((fun _ => 0) k) ∧ (fun _ : Nat => 0) k ≤ 15 := fun k _ => ⟨rfl, Nat.zero_le 15⟩
    refine fw_time (g := 0) hn (by omega) hT (fun r8 h8 => ?_)
    refine ft_least (g := 0) hn1 hn (by omega) hT (fun z => absurd z (by decide)) (fun r9 cR cC b2 b3 b4 b5 b6 b7 b8 b9 b10 h9 => ?_)
    refine ft_with (g := 0) hn1 hn (by omega) hT (fun r10 cD cK cR cC b2 b3 b4 b5 b6 b7 b8 b9 h10 => ?_)
    refine fw_mof (g := 0) (by omega) (fun r11 h11 => ?_)
    refine ft_idle (g := 0) hn1 hn (by omega) hT (fun r12 cD cK cR cC b2 b3 b4 b5 b6 b7 b8 b9 h12 => ?_)
    refine fw_pick (fun x => wL_lawOf_86 post 72 1152 p1 p2 p3 p4 p5 (-1) r8 r9 r10 r11 r12 x (1 + 10) (18 + 157)) hcl (fw_86 hp rfl rfl ?_)
    rw [fw_G0 hno]
    have e8 : r8 = -1 := by
      rcases h8 with ⟨m, z, _⟩ | ⟨_, e⟩
      · exact absurd z (by decide)
      · exact e
    have e9 : r9 = 0 := by
      rcases h9 with ⟨_, e⟩ | ⟨z, _⟩
      · exact e
      · exact absurd z (by decide)
    have e10 : r10 = -1 := by
      rcases h10 with ⟨m, z, _⟩ | ⟨_, e⟩
      · exact absurd z (by decide)
      · exact e
    have e11 : r11 = -1 := by
      rcases h11 with ⟨z, _⟩ | ⟨_, e⟩
      · exact absurd z (by decide)
      · exact e
    subst e8 e9 e10 e11
    refine fw_bad hn ?_
    rcases h12 with h | ⟨m, w, hm, hx, _, hR⟩
    · exact Or.inl h
    · rcases hR with ⟨_, e⟩ | ⟨z, _⟩
      · exact Or.inr ⟨⟨m, hm, hx⟩, e⟩
      · exact absurd z (by decide)
theorem i_vc (xs : Nat → Int32) (L : Nat) (hL : L ≤ 6) : wpL_law (fun r => r = 1) L xs := by
  unfold wpL_law
  refine fw_cell (k := 0) hL (by omega) (fun p0 => ?_)
  refine fw_cell (k := 1) hL (by omega) (fun p1 => ?_)
  refine fw_cell (k := 2) hL (by omega) (fun p2 => ?_)
  refine fw_cell (k := 3) hL (by omega) (fun p3 => ?_)
  refine fw_cell (k := 4) hL (by omega) (fun p4 => ?_)
  refine fw_cell (k := 5) hL (by omega) (fun p5 => ?_)
  exact ⟨72, 1152, by omega, by omega, fw_law rfl p0 p1 p2 p3 p4 p5⟩
end
