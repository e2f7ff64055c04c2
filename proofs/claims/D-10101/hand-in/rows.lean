section
/-! ===== lN n to 2^64: shifts, and, or, masks, one bit ===== -/
theorem wb_tb (n : Nat) : (lN n).toBitVec = BitVec.ofNat 64 n := rfl
theorem wb_inj {a b : Int64} (h : a.toBitVec = b.toBitVec) : a = b := Int64.toBitVec_inj.mp h
theorem wb_tn {n : Nat} (h : n < 2 ^ 64) : (lN n).toBitVec.toNat = n := by rw [wb_tb, BitVec.toNat_ofNat, Nat.mod_eq_of_lt h]
theorem wb_of (x : Int64) : ∃ n, n < 2 ^ 64 ∧ x = lN n := ⟨x.toBitVec.toNat, x.toBitVec.isLt, wb_inj (by rw [wb_tb]; simp)⟩
theorem wb_of32 (x : Int32) : ∃ n, n < 2 ^ 32 ∧ x = nI n := ⟨x.toBitVec.toNat, x.toBitVec.isLt, Int32.toBitVec_inj.mp (by show _ = BitVec.ofNat 32 _; simp)⟩
theorem wb_c : ∀ k, k < 64 → ((nI k).toInt64 &&& 63) = lN k := by decide +kernel
theorem wb_cu : ∀ k, k < 64 → ((nI k).toInt64.toUInt64 &&& Int64.toUInt64 63) = UInt64.ofNat k := by decide +kernel
theorem wb_sm : ∀ k, k < 64 → (BitVec.ofNat 64 k).smod 64 = BitVec.ofNat 64 k := by decide +kernel
theorem wb_pw {a b : Nat} (h : a ≤ b) : 2 ^ b = 2 ^ a * 2 ^ (b - a) := by rw [← Nat.pow_add]; congr 1; omega
theorem wb_lt2 {a b : Nat} (h : a < b) : 2 ^ a < 2 ^ b := Nat.pow_lt_pow_right (by decide) h
theorem wb_mod (n : Nat) : lN n = lN (n % 2 ^ 64) := wb_inj (by rw [wb_tb, wb_tb]; apply BitVec.eq_of_toNat_eq; rw [BitVec.toNat_ofNat, BitVec.toNat_ofNat, Nat.mod_mod])
theorem wb_shr {n k : Nat} (hn : n < 2 ^ 64) (hk : k < 64) : ((lN n).toUInt64 >>> ((nI k).toInt64.toUInt64 &&& Int64.toUInt64 63)).toInt64 = lN (n / 2 ^ k) := by
  rw [wb_cu k hk]
  apply wb_inj
  apply BitVec.eq_of_toNat_eq
  show ((lN n).toUInt64 >>> UInt64.ofNat k).toNat = (BitVec.ofNat 64 _).toNat
  have h1 : (UInt64.ofNat k).toNat = k := by
    show (BitVec.ofNat 64 k).toNat = k
    rw [BitVec.toNat_ofNat, Nat.mod_eq_of_lt (by omega)]
  have h2 : (lN n).toUInt64.toNat = n := wb_tn hn
  rw [UInt64.toNat_shiftRight, h1, h2, Nat.mod_eq_of_lt hk, Nat.shiftRight_eq_div_pow, BitVec.toNat_ofNat, Nat.mod_eq_of_lt (Nat.lt_of_le_of_lt (Nat.div_le_self _ _) hn)]
theorem wb_shl (n : Nat) {k : Nat} (hk : k < 64) : lN n <<< ((nI k).toInt64 &&& 63) = lN (n * 2 ^ k) := by
  rw [wb_c k hk]
  apply wb_inj
  rw [Int64.toBitVec_shiftLeft, wb_tb, wb_tb, wb_tb, wb_sm k hk]
  apply BitVec.eq_of_toNat_eq
  rw [BitVec.shiftLeft_eq', BitVec.toNat_shiftLeft, BitVec.toNat_ofNat, BitVec.toNat_ofNat, BitVec.toNat_ofNat, Nat.mod_eq_of_lt (show k < 2 ^ 64 by omega), Nat.shiftLeft_eq, Nat.mul_mod, Nat.mod_mod, ← Nat.mul_mod]
theorem wb_and {a b : Nat} (ha : a < 2 ^ 64) (hb : b < 2 ^ 64) : lN a &&& lN b = lN (a &&& b) := by
  apply wb_inj
  rw [Int64.toBitVec_and, wb_tb, wb_tb, wb_tb]
  apply BitVec.eq_of_toNat_eq
  rw [BitVec.toNat_and, BitVec.toNat_ofNat, BitVec.toNat_ofNat, BitVec.toNat_ofNat, Nat.mod_eq_of_lt ha, Nat.mod_eq_of_lt hb, Nat.mod_eq_of_lt (Nat.and_lt_two_pow _ hb)]
theorem wb_or {a b : Nat} (ha : a < 2 ^ 64) (hb : b < 2 ^ 64) : lN a ||| lN b = lN (a ||| b) := by
  apply wb_inj
  rw [Int64.toBitVec_or, wb_tb, wb_tb, wb_tb]
  apply BitVec.eq_of_toNat_eq
  rw [BitVec.toNat_or, BitVec.toNat_ofNat, BitVec.toNat_ofNat, BitVec.toNat_ofNat, Nat.mod_eq_of_lt ha, Nat.mod_eq_of_lt hb, Nat.mod_eq_of_lt (Nat.or_lt_two_pow ha hb)]
theorem wb_mask {n k : Nat} (hn : n < 2 ^ 64) (hk : k < 64) : lN n &&& lN (2 ^ k - 1) = lN (n % 2 ^ k) := by
  rw [wb_and hn (by have := wb_lt2 hk; omega), Nat.and_two_pow_sub_one_eq_mod]
theorem wb_a1 {n : Nat} (hn : n < 2 ^ 64) : lN n &&& 1 = lN (n % 2) := wb_mask (k := 1) hn (by decide)
theorem wb_bit {n k : Nat} (hn : n < 2 ^ 64) (hk : k < 64) : ((lN n).toUInt64 >>> ((nI k).toInt64.toUInt64 &&& Int64.toUInt64 63)).toInt64 &&& 1 = lN (n / 2 ^ k % 2) := by
  rw [wb_shr hn hk, wb_a1 (Nat.lt_of_le_of_lt (Nat.div_le_self _ _) hn)]
/-! ===== the found set: one bit a number ===== -/
def pt_bit (a : Nat → Int64) (x : Nat) : Bool := (a (x / 64)).toBitVec.getLsbD (x % 64)
theorem pt_ix {x : Nat} (h : x < 8000) : nI x >>> ((6 : Int32) &&& 31) = nI (x / 64) := pk_shrN (by omega) _ 6 (by decide)
theorem pt_lo {x : Nat} (h : x < 8000) : nI x &&& 63 = nI (x % 64) := pk_andN (by omega) 6 (by decide)
theorem pt_tb {m k : Nat} (hm : m < 2 ^ 64) : (lN m).toBitVec.getLsbD k = (m / 2 ^ k % 2 == 1) := by
  rw [BitVec.getLsbD, wb_tn hm, Nat.testBit_eq_decide_div_mod_eq]
  simp [BEq.beq]
theorem pt_read (a : Nat → Int64) {x : Nat} (h : x < 8000) : ((((a (nI x >>> ((6 : Int32) &&& 31)).toNatClampNeg).toUInt64 >>> ((nI x &&& 63).toInt64.toUInt64 &&& Int64.toUInt64 63)).toInt64) &&& 1) = (if pt_bit a x then 1 else 0) := by
  rw [pt_ix h, pt_lo h, nI_clamp (show x / 64 < 2 ^ 31 by omega)]
  unfold pt_bit
  obtain ⟨m, hm, e⟩ := wb_of (a (x / 64))
  rw [e, wb_bit hm (by omega), pt_tb hm]
  rcases Nat.mod_two_eq_zero_or_one (m / 2 ^ (x % 64)) with z | z
  · rw [z]; rfl
  · rw [z]; rfl
theorem pt_orbit (w : Int64) {k j : Nat} (hk : k < 64) (hj : j < 64) : (w ||| ((1 : Int64) <<< ((nI k).toInt64 &&& 63))).toBitVec.getLsbD j = (w.toBitVec.getLsbD j || decide (j = k)) := by
  have e : (1 : Int64) <<< ((nI k).toInt64 &&& 63) = lN (2 ^ k) := by
    have t := wb_shl 1 hk
    rw [Nat.one_mul] at t
    exact t
  rw [e, Int64.toBitVec_or, BitVec.getLsbD_or]
  congr 1
  rw [BitVec.getLsbD, wb_tn (wb_lt2 hk), Nat.testBit_two_pow]
  by_cases z : k = j
  · subst z; simp
  · have z' : ¬ j = k := fun y => z y.symm
    simp [z, z']
theorem pt_note (a : Nat → Int64) {x : Nat} (h : x < 8000) {y : Nat} : pt_bit (vp_updL a (nI x >>> ((6 : Int32) &&& 31)).toNatClampNeg ((a (nI x >>> ((6 : Int32) &&& 31)).toNatClampNeg) ||| ((1 : Int64) <<< ((nI x &&& 63).toInt64 &&& 63)))) y = (pt_bit a y || decide (y = x)) := by
  rw [pt_ix h, pt_lo h, nI_clamp (show x / 64 < 2 ^ 31 by omega)]
  unfold pt_bit
  by_cases e : y / 64 = x / 64
  · rw [e, pk_uLs, pt_orbit _ (by omega) (by omega)]
    congr 1
    apply decide_eq_decide.mpr
    omega
  · rw [pk_uLn e]
    have : ¬ y = x := fun z => e (by rw [z])
    simp [this]
theorem pt_bit0 {a : Nat → Int64} (h : ∀ i, i < 125 → a i = 0) {x : Nat} (hx : x < 8000) : pt_bit a x = false := by
  unfold pt_bit
  rw [h (x / 64) (by omega)]
  exact BitVec.getLsbD_zero
/-! ===== counting ===== -/
def pt_cnt (b : Nat → Bool) : Nat → Nat
  | 0 => 0
  | n + 1 => pt_cnt b n + (if b n then 1 else 0)
theorem pt_cnt_le (b : Nat → Bool) (n : Nat) : pt_cnt b n ≤ n := by
  induction n with
  | zero => exact Nat.le_refl 0
  | succ n ih => unfold pt_cnt; split <;> omega
theorem pt_cnt_congr {b c : Nat → Bool} {n : Nat} (h : ∀ i, i < n → b i = c i) : pt_cnt b n = pt_cnt c n := by
  induction n with
  | zero => rfl
  | succ n ih => unfold pt_cnt; rw [ih (fun i hi => h i (by omega)), h n (by omega)]
theorem pt_cnt_or {b c d : Nat → Bool} {n : Nat} (h : ∀ i, i < n → d i = (b i || c i)) (hd : ∀ i, i < n → b i = true → c i = true → False) : pt_cnt d n = pt_cnt b n + pt_cnt c n := by
  induction n with
  | zero => rfl
  | succ n ih =>
    unfold pt_cnt
    rw [ih (fun i hi => h i (by omega)) (fun i hi => hd i (by omega)), h n (by omega)]
    have t := hd n (by omega)
    cases hb : b n <;> cases hc : c n <;> simp_all <;> omega
theorem pt_cnt_mono {b c : Nat → Bool} {n : Nat} (h : ∀ i, i < n → b i = true → c i = true) : pt_cnt b n ≤ pt_cnt c n := by
  induction n with
  | zero => exact Nat.le_refl 0
  | succ n ih =>
    unfold pt_cnt
    have i1 := ih (fun i hi => h i (by omega))
    have t := h n (by omega)
    cases hb : b n <;> cases hc : c n <;> simp_all <;> omega
theorem pt_cnt_lt {b c : Nat → Bool} {n k : Nat} (h : ∀ i, i < n → b i = true → c i = true) (hk : k < n) (hb : b k = false) (hc : c k = true) : pt_cnt b n < pt_cnt c n := by
  induction n with
  | zero => omega
  | succ n ih =>
    unfold pt_cnt
    by_cases e : k = n
    · subst e
      have i1 := pt_cnt_mono (n := k) (b := b) (c := c) (fun i hi => h i (by omega))
      rw [hb, hc]
      simp
      omega
    · have i1 := ih (fun i hi => h i (by omega)) (by omega)
      have t := h n (by omega)
      cases hb : b n <;> cases hc : c n <;> simp_all <;> omega
noncomputable def pt_dec (p : Prop) : Bool := @decide p (Classical.propDecidable p)
theorem pt_dec_t {p : Prop} : pt_dec p = true ↔ p := by
  unfold pt_dec
  exact @decide_eq_true_iff p (Classical.propDecidable p)
theorem pt_dec_f {p : Prop} : pt_dec p = false ↔ ¬ p := by
  unfold pt_dec
  exact @decide_eq_false_iff_not p (Classical.propDecidable p)
theorem pt_dec_c {p q : Prop} (h : p ↔ q) : pt_dec p = pt_dec q := by rw [propext h]
theorem pt_dec_or {p q : Prop} : pt_dec (p ∨ q) = (pt_dec p || pt_dec q) := by
  apply Bool.eq_iff_iff.mpr
  rw [Bool.or_eq_true, pt_dec_t, pt_dec_t, pt_dec_t]
/-! ===== the graph ===== -/
def pt_up (V : Nat → Nat) (t c : Nat) : Nat → Nat := fun j => if j = t then c else V j
theorem pt_up_s (V : Nat → Nat) (t c : Nat) : pt_up V t c t = c := by unfold pt_up; rw [if_pos rfl]
theorem pt_up_n (V : Nat → Nat) {t j : Nat} (c : Nat) (h : j ≠ t) : pt_up V t c j = V j := by unfold pt_up; rw [if_neg h]
def pt_cong (sy lf rt ld : Nat → Nat) (i j : Nat) : Prop := sy i = sy j ∧ sy i ≠ 0 ∧ ld (lf i) = ld (lf j) ∧ (sy i = 20 ∨ ld (rt i) = ld (rt j))
def pt_lead (N : Nat) (ld : Nat → Nat) : Prop := ∀ i, i < N → ld i < N ∧ ld (ld i) = ld i
def pt_sh (N : Nat) (sy lf rt : Nat → Nat) : Prop := N ≤ 20 ∧ ∀ i, i < N → (sy i = 0 ∨ sy i = 20 ∨ sy i = 21) ∧ lf i < 20 ∧ rt i < 20 ∧ (sy i ≠ 0 → lf i < N ∧ rt i < N)
def pt_clo (N : Nat) (sy lf rt ld : Nat → Nat) : Prop := ∀ i j, i < N → j < N → pt_cong sy lf rt ld i j → ld i = ld j
/-- the shape of the graph, the leaders, closed under congruence -/
def pt_G (N : Nat) (sy lf rt ld : Nat → Nat) : Prop := pt_sh N sy lf rt ∧ pt_lead N ld ∧ pt_clo N sy lf rt ld
/-- the class of a constant: the first node of it from x on, d nodes -/
def pt_coc (sy lf ld : Nat → Nat) (k : Nat) : Nat → Nat → Int32
  | 0, _ => -1
  | d + 1, x => if sy x = 0 ∧ lf x = k then nI (ld x) else pt_coc sy lf ld k d (x + 1)
/-! ===== what a pattern matches ===== -/
def pt_enc (V : Nat → Nat) : Nat := 400 * (V 0 - 1) + 20 * (V 1 - 1) + (V 2 - 1)
/-- what is pushed for a node that is taken -/
def pt_kids (lf rt ld : Nat → Nat) (t n : Nat) (C : List Nat) : List Nat := if t = 21 then ld (lf n) :: ld (rt n) :: C else ld (lf n) :: C
def pt_sem (N : Nat) (sy lf rt ld : Nat → Nat) : List Nat → List Nat → (Nat → Nat) → Nat → Prop
  | [], [], V, x => x = pt_enc V
  | [], _ :: _, _, _ => False
  | _ :: _, [], _, _ => False
  | t :: ts, c :: C, V, x =>
    if t ≤ 2 then (if V t = 0 then pt_sem N sy lf rt ld ts C (pt_up V t (c + 1)) x else V t = c + 1 ∧ pt_sem N sy lf rt ld ts C V x)
    else if t ≤ 15 then pt_coc sy lf ld (t - 10) N 0 = nI c ∧ pt_sem N sy lf rt ld ts C V x
    else ∃ n, n < N ∧ ld n = c ∧ sy n = t ∧ pt_sem N sy lf rt ld ts (pt_kids lf rt ld t n C) V x
theorem pt_inj {N : Nat} {sy lf rt ld : Nat → Nat} (hG : pt_G N sy lf rt ld) : ∀ (ts C1 C2 : List Nat) (V1 V2 : Nat → Nat) (x : Nat), pt_sem N sy lf rt ld ts C1 V1 x → pt_sem N sy lf rt ld ts C2 V2 x → (∀ i, i < 3 → (V1 i = 0 ↔ V2 i = 0)) → (∀ i, i < 3 → V1 i ≤ 20 ∧ V2 i ≤ 20) → (∀ c, c ∈ C1 → c < 20) → (∀ c, c ∈ C2 → c < 20) → C1 = C2 ∧ ∀ i, i < 3 → V1 i = V2 i := by
  obtain ⟨⟨hN, hsh⟩, hld, hcl⟩ := hG
  have hk : ∀ t n C, 15 < t → n < N → sy n = t → (∀ c, c ∈ C → c < 20) → ∀ c, c ∈ pt_kids lf rt ld t n C → c < 20 := by
    intro t n C ht hn hs hC c hc
    have h1 := (hsh n hn).2.2.2 (by omega)
    have h2 := (hld _ h1.1).1
    have h3 := (hld _ h1.2).1
    unfold pt_kids at hc
    split at hc
    · simp only [List.mem_cons] at hc
      rcases hc with z | z | z
      · omega
      · omega
      · exact hC c z
    · simp only [List.mem_cons] at hc
      rcases hc with z | z
      · omega
      · exact hC c z
  intro ts
  induction ts with
  | nil =>
    intro C1 C2 V1 V2 x h1 h2 hd hb _ _
    cases C1 with
    | cons a b => exact absurd h1 (by simp [pt_sem])
    | nil =>
    cases C2 with
    | cons a b => exact absurd h2 (by simp [pt_sem])
    | nil =>
    refine ⟨rfl, ?_⟩
    simp only [pt_sem] at h1 h2
    unfold pt_enc at h1 h2
    have d0 := hd 0 (by omega)
    have d1 := hd 1 (by omega)
    have d2 := hd 2 (by omega)
    have b0 := hb 0 (by omega)
    have b1 := hb 1 (by omega)
    have b2 := hb 2 (by omega)
    intro i hi
    have hi' : i = 0 ∨ i = 1 ∨ i = 2 := by omega
    rcases hi' with e | e | e <;> subst e <;> omega
  | cons t ts ih =>
    intro C1 C2 V1 V2 x h1 h2 hd hb hc1 hc2
    cases C1 with
    | nil => exact absurd h1 (by simp [pt_sem])
    | cons c1 C1 =>
    cases C2 with
    | nil => exact absurd h2 (by simp [pt_sem])
    | cons c2 C2 =>
    have g1 : c1 < 20 := hc1 c1 (List.mem_cons_self ..)
    have g2 : c2 < 20 := hc2 c2 (List.mem_cons_self ..)
    have g1' : ∀ c, c ∈ C1 → c < 20 := fun c h => hc1 c (List.mem_cons_of_mem _ h)
    have g2' : ∀ c, c ∈ C2 → c < 20 := fun c h => hc2 c (List.mem_cons_of_mem _ h)
    simp only [pt_sem] at h1 h2
    by_cases ht : t ≤ 2
    · rw [if_pos ht] at h1 h2
      by_cases hv : V1 t = 0
      · have hv2 : V2 t = 0 := (hd t (by omega)).mp hv
        rw [if_pos hv] at h1
        rw [if_pos hv2] at h2
        have r := ih C1 C2 _ _ x h1 h2 ?_ ?_ g1' g2'
        · have r1 := r.2 t (by omega)
          rw [pt_up_s, pt_up_s] at r1
          refine ⟨by rw [r.1, show c1 = c2 by omega], fun i hi => ?_⟩
          by_cases e : i = t
          · rw [e, hv, hv2]
          · have r2 := r.2 i hi
            rw [pt_up_n _ _ e, pt_up_n _ _ e] at r2
            exact r2
        · intro i hi
          by_cases e : i = t
          · rw [e, pt_up_s, pt_up_s]; omega
          · rw [pt_up_n _ _ e, pt_up_n _ _ e]; exact hd i hi
        · intro i hi
          by_cases e : i = t
          · rw [e, pt_up_s, pt_up_s]; omega
          · rw [pt_up_n _ _ e, pt_up_n _ _ e]; exact hb i hi
      · have hv2 : ¬ V2 t = 0 := fun z => hv ((hd t (by omega)).mpr z)
        rw [if_neg hv] at h1
        rw [if_neg hv2] at h2
        have r := ih C1 C2 _ _ x h1.2 h2.2 hd hb g1' g2'
        have r1 := r.2 t (by omega)
        exact ⟨by rw [r.1, show c1 = c2 by omega], r.2⟩
    · rw [if_neg ht] at h1 h2
      by_cases ht' : t ≤ 15
      · rw [if_pos ht'] at h1 h2
        have r := ih C1 C2 _ _ x h1.2 h2.2 hd hb g1' g2'
        have e : nI c1 = nI c2 := h1.1.symm.trans h2.1
        rw [nI_eq (by omega) (by omega)] at e
        exact ⟨by rw [r.1, e], r.2⟩
      · rw [if_neg ht'] at h1 h2
        obtain ⟨n1, l1, e1, s1, m1⟩ := h1
        obtain ⟨n2, l2, e2, s2, m2⟩ := h2
        have r := ih _ _ _ _ x m1 m2 hd hb (hk t n1 C1 (by omega) l1 s1 g1') (hk t n2 C2 (by omega) l2 s2 g2')
        refine ⟨?_, r.2⟩
        have q := r.1
        unfold pt_kids at q
        have hcg : C1 = C2 ∧ pt_cong sy lf rt ld n1 n2 := by
          unfold pt_cong
          by_cases h21 : t = 21
          · rw [if_pos h21, if_pos h21] at q
            simp only [List.cons.injEq] at q
            exact ⟨q.2.2, by omega, by omega, q.1, Or.inr q.2.1⟩
          · rw [if_neg h21, if_neg h21] at q
            simp only [List.cons.injEq] at q
            have h20 := (hsh n1 l1).1
            exact ⟨q.2, by omega, by omega, q.1, Or.inl (by omega)⟩
        rw [hcg.1, ← e1, ← e2, hcl n1 n2 l1 l2 hcg.2]
end
section
/-! ===== small walks: clearFound, classOfConstant, note, back, take ===== -/
theorem pt_b8 : ∀ c, c < 128 → (nI c).toInt8.toInt32 = nI c := by decide +kernel
theorem pt_nar {c : Nat} (h : c < 128) : vp_nar .byte (nI c) = nI c := by rw [vp_nar_byte]; exact pt_b8 c h
theorem pt_sm (x : Int32) : x + (-1) = x - 1 := by grind
/-- the arrays hold the graph -/
def pt_gm (N : Nat) (sy lf rt ld : Nat → Nat) (a1 a2 a3 a4 : Nat → Int32) : Prop := ∀ i, i < N → a1 i = nI (sy i) ∧ a2 i = nI (lf i) ∧ a3 i = nI (rt i) ∧ a4 i = nI (ld i)
section
variable {f0 f1 f2 f3 f4 f5 f6 : Int32} {a1 a2 a3 a4 a5 a6 a7 a8 a9 a10 a11 a12 a13 a14 a15 : Nat → Int32} {a16 : Nat → Int64}
theorem pt_clear_l : ∀ (d i : Nat) (a16 : Nat → Int64), i + d = 125 → (∀ j, j < i → a16 j = 0) → ∃ b16 : Nat → Int64, (∀ j, j < 125 → b16 j = 0) ∧ ∀ post : St1 → Prop, post (f0, f1, f2, f3, f4, f5, f6, a1, a2, a3, a4, a5, a6, a7, a8, a9, a10, a11, a12, a13, a14, a15, b16) → ∃ n, wX_clearFound_2 post f0 f1 f2 f3 f4 f5 f6 n (nI i) a1 a2 a3 a4 a5 a6 a7 a8 a9 a10 a11 a12 a13 a14 a15 a16 := by
  intro d
  induction d with
  | zero =>
    intro i a16 hi h
    exact ⟨a16, fun j hj => h j (by omega), fun post hp => ⟨0 + 1, pk_le 125 i (fun _ => hp) (fun z => absurd z (by omega))⟩⟩
  | succ d ih =>
    intro i a16 hi h
    have h' : ∀ j, j < i + 1 → vp_updL a16 i 0 j = 0 := by
      intro j hj
      by_cases e : j = i
      · rw [e, pk_uLs]
      · rw [pk_uLn e]; exact h j (by omega)
    obtain ⟨b16, hb, hw⟩ := ih (i + 1) (vp_updL a16 i 0) (by omega) h'
    refine ⟨b16, hb, fun post hp => ?_⟩
    obtain ⟨n, hn⟩ := hw post hp
    exact ⟨n + 1, pk_le 125 i (fun z => absurd z (by omega)) (fun _ => ⟨pk_in i 125 (by omega), nm_r (by rw [nI_clamp (by omega)]) (nm_r (nI_1 i) hn)⟩)⟩
theorem pt_clear : ∃ b16 : Nat → Int64, (∀ j, j < 125 → b16 j = 0) ∧ ∀ post : St1 → Prop, post (f0, f1, f2, f3, f4, f5, f6, a1, a2, a3, a4, a5, a6, a7, a8, a9, a10, a11, a12, a13, a14, a15, b16) → wpX_clearFound post (f0, f1, f2, f3, f4, f5, f6, a1, a2, a3, a4, a5, a6, a7, a8, a9, a10, a11, a12, a13, a14, a15, a16) :=
  pt_clear_l 125 0 a16 (by omega) (fun j hj => absurd hj (by omega))
theorem pt_coc_l {N k : Nat} {sy lf rt ld : Nat → Nat} {post : Int32 → Prop} (hS : pt_sh N sy lf rt) (hg : pt_gm N sy lf rt ld a1 a2 a3 a4) (hk : k < 20) : ∀ (d i : Nat), i + d = N → post (pt_coc sy lf ld k d i) → ∃ n, wX_classOfConstant_2 post (nI k) (nI N) f1 f2 f3 f4 f5 f6 a1 a2 a3 a4 a5 a6 a7 a8 a9 a10 a11 a12 a13 a14 a15 a16 n (nI i) := by
  have hN := hS.1
  intro d
  induction d with
  | zero =>
    intro i hi hp
    exact ⟨0 + 1, pk_le N i (fun _ => hp) (fun z => absurd z (by omega))⟩
  | succ d ih =>
    intro i hi hp
    have hi' : i < N := by omega
    have s := hS.2 i hi'
    have c : (nI i).toNatClampNeg = i := nI_clamp (by omega)
    have g := hg i hi'
    have e1 : a1 (nI i).toNatClampNeg = nI (sy i) := by rw [c]; exact g.1
    have e2 : a2 (nI i).toNatClampNeg = nI (lf i) := by rw [c]; exact g.2.1
    have e4 : a4 (nI i).toNatClampNeg = nI (ld i) := by rw [c]; exact g.2.2.2
    unfold pt_coc at hp
    by_cases h : sy i = 0 ∧ lf i = k
    · rw [if_pos h] at hp
      refine ⟨0 + 1, pk_le N i (fun z => absurd z (by omega)) (fun _ => ⟨pk_in i 20 (by omega), br_t (by rw [e1, h.1]; rfl) ⟨pk_in i 20 (by omega), br_t (by rw [e2, h.2]) ⟨pk_in i 20 (by omega), ?_⟩⟩⟩)⟩
      rw [e4]
      exact hp
    · rw [if_neg h] at hp
      obtain ⟨n, hn⟩ := ih (i + 1) (by omega) hp
      refine ⟨n + 1, pk_le N i (fun z => absurd z (by omega)) (fun _ => ⟨pk_in i 20 (by omega), ?_⟩)⟩
      refine pk_eq (sy i) 0 (fun z => ⟨pk_in i 20 (by omega), ?_⟩) (fun z => nm_r (nI_1 i) hn) e1
      exact pk_eq (lf i) k (fun y => absurd ⟨z, y⟩ h) (fun y => nm_r (nI_1 i) hn) e2
theorem pt_coc_w {N k : Nat} {sy lf rt ld : Nat → Nat} {post : Int32 → Prop} (hS : pt_sh N sy lf rt) (hg : pt_gm N sy lf rt ld a1 a2 a3 a4) (hk : k < 20) (hp : post (pt_coc sy lf ld k N 0)) : wpX_classOfConstant post (nI N, f1, f2, f3, f4, f5, f6, a1, a2, a3, a4, a5, a6, a7, a8, a9, a10, a11, a12, a13, a14, a15, a16) (nI k) :=
  pt_coc_l hS hg hk N 0 (by omega) hp
/-- the variables: 0 unset, c + 1 the class c -/
def pt_VOk (a14 : Nat → Int32) (V : Nat → Nat) : Prop := ∀ i, i < 3 → V i ≤ 20 ∧ ((V i = 0 ∧ a14 i = -1) ∨ (V i ≠ 0 ∧ a14 i = nI (V i - 1)))
theorem pt_enc_lt {a14 : Nat → Int32} {V : Nat → Nat} (h : pt_VOk a14 V) : pt_enc V < 8000 := by
  have h0 := (h 0 (by omega)).1
  have h1 := (h 1 (by omega)).1
  have h2 := (h 2 (by omega)).1
  unfold pt_enc
  omega
theorem pt_note_s {V : Nat → Nat} {post : St1 → Prop} (h : pt_VOk a14 V) {n x i : Nat} (hi : i < 3) (hx : x < 400) (hn : wX_note_4 post f0 f1 f2 f3 f4 f5 f6 a1 a2 a3 a4 a5 a6 a7 a8 a9 a10 a11 a12 a13 a14 a15 a16 n (nI (20 * x + (V i - 1))) (nI (i + 1))) : wX_note_4 post f0 f1 f2 f3 f4 f5 f6 a1 a2 a3 a4 a5 a6 a7 a8 a9 a10 a11 a12 a13 a14 a15 a16 (n + 1) (nI x) (nI i) := by
  have c : (nI i).toNatClampNeg = i := nI_clamp (by omega)
  have hv := h i hi
  refine pk_le 3 i (fun z => absurd z (by omega)) (fun _ => ⟨pk_in i 3 hi, ?_⟩)
  rcases hv.2 with ⟨v, e⟩ | ⟨v, e⟩
  · have e' : a14 (nI i).toNatClampNeg = -1 := by rw [c]; exact e
    refine br_f (by rw [e']; decide) (nm_r (e' := nI (20 * x + (V i - 1))) ?_ (nm_r (nI_1 i) hn))
    rw [v, show (20 : Int32) * nI x = nI (20 * x) from pk_mul 20 x]
    exact nI_add (20 * x) 0
  · have e' : a14 (nI i).toNatClampNeg = nI (V i - 1) := by rw [c]; exact e
    refine br_t (by rw [e']; exact nI_pos' (by omega)) ⟨pk_in i 3 hi, nm_r (e' := nI (20 * x + (V i - 1))) ?_ (nm_r (nI_1 i) hn)⟩
    rw [e', show (20 : Int32) * nI x = nI (20 * x) from pk_mul 20 x]
    exact nI_add _ _
theorem pt_note_w {V : Nat → Nat} {post : St1 → Prop} (h : pt_VOk a14 V) (hp : post (f0, f1, f2, f3, f4, f5, f6, a1, a2, a3, a4, a5, a6, a7, a8, a9, a10, a11, a12, a13, a14, a15, vp_updL a16 (nI (pt_enc V) >>> ((6 : Int32) &&& 31)).toNatClampNeg ((a16 (nI (pt_enc V) >>> ((6 : Int32) &&& 31)).toNatClampNeg) ||| ((1 : Int64) <<< ((nI (pt_enc V) &&& 63).toInt64 &&& 63))))) : wpX_note post (f0, f1, f2, f3, f4, f5, f6, a1, a2, a3, a4, a5, a6, a7, a8, a9, a10, a11, a12, a13, a14, a15, a16) := by
  have h0 := (h 0 (by omega)).1
  have h1 := (h 1 (by omega)).1
  have h2 := (h 2 (by omega)).1
  have hx := pt_enc_lt h
  have hl : wX_note_4 post f0 f1 f2 f3 f4 f5 f6 a1 a2 a3 a4 a5 a6 a7 a8 a9 a10 a11 a12 a13 a14 a15 a16 (0 + 1) (nI (pt_enc V)) (nI 3) := by
    have hin : vp_in (nI (pt_enc V) >>> ((6 : Int32) &&& 31)) 125 := by rw [pt_ix hx]; exact pk_in (pt_enc V / 64) 125 (by omega)
    exact pk_le 3 3 (fun _ => ⟨hin, hin, nm_e hp⟩) (fun z => absurd z (by omega))
  have e : pt_enc V = 20 * (20 * (20 * 0 + (V 0 - 1)) + (V 1 - 1)) + (V 2 - 1) := by unfold pt_enc; omega
  rw [e] at hl
  have s2 := pt_note_s h (i := 2) (x := 20 * (20 * 0 + (V 0 - 1)) + (V 1 - 1)) (by omega) (by omega) hl
  have s1 := pt_note_s h (i := 1) (x := 20 * 0 + (V 0 - 1)) (by omega) (by omega) s2
  exact ⟨0 + 1 + 1 + 1 + 1, pt_note_s h (i := 0) (x := 0) (by omega) (by omega) s1⟩
/-- where back comes to, and the variables then -/
def pt_bk (a8 a9 : Nat → Int32) : Nat → (Nat → Int32) → Int32 × (Nat → Int32)
  | 0, v => (-1, v)
  | k + 1, v => if a8 k = 0 then (nI k, v) else if a8 k = 1 then pt_bk a8 a9 k (upd v (a9 k).toNatClampNeg (-1)) else pt_bk a8 a9 k v
theorem pt_back_l {post : Int32 → St1 → Prop} : ∀ (k : Nat) (a14 : Nat → Int32), k ≤ 10 → (∀ j, j < k → a8 j = 1 → vp_in (a9 j) 3) → post (pt_bk a8 a9 k a14).1 (f0, f1, f2, f3, f4, f5, f6, a1, a2, a3, a4, a5, a6, a7, a8, a9, a10, a11, a12, a13, (pt_bk a8 a9 k a14).2, a15, a16) → ∃ n, wX_back_4 post f0 f1 f2 f3 f4 f5 f6 n (nI k - 1) a1 a2 a3 a4 a5 a6 a7 a8 a9 a10 a11 a12 a13 a14 a15 a16 := by
  intro k
  induction k with
  | zero =>
    intro a14 _ _ hp
    exact ⟨0 + 1, br_t (by decide) hp⟩
  | succ k ih =>
    intro a14 hk hb hp
    rw [nI_pred]
    have c : (nI k).toNatClampNeg = k := nI_clamp (by omega)
    unfold pt_bk at hp
    by_cases h0 : a8 k = 0
    · rw [if_pos h0] at hp
      exact ⟨0 + 1, br_f (nI_pos (by omega)) ⟨pk_in k 10 (by omega), br_t (by rw [c]; exact h0) hp⟩⟩
    · rw [if_neg h0] at hp
      by_cases h1 : a8 k = 1
      · rw [if_pos h1] at hp
        obtain ⟨n, hn⟩ := ih _ (by omega) (fun j hj => hb j (by omega)) hp
        refine ⟨n + 1, br_f (nI_pos (by omega)) ⟨pk_in k 10 (by omega), br_f (by rw [c]; exact h0) ⟨pk_in k 10 (by omega), br_t (by rw [c]; exact h1) ⟨pk_in k 10 (by omega), ?_, ?_⟩⟩⟩⟩
        · rw [c]; exact hb k (by omega) h1
        · exact nm_r (by rw [c]) (nm_r (pt_sm _) hn)
      · rw [if_neg h1] at hp
        obtain ⟨n, hn⟩ := ih _ (by omega) (fun j hj => hb j (by omega)) hp
        exact ⟨n + 1, br_f (nI_pos (by omega)) ⟨pk_in k 10 (by omega), br_f (by rw [c]; exact h0) ⟨pk_in k 10 (by omega), br_f (by rw [c]; exact h1) (nm_r (pt_sm _) hn)⟩⟩⟩
theorem pt_back {post : Int32 → St1 → Prop} {k : Nat} (hk : k ≤ 10) (hb : ∀ j, j < k → a8 j = 1 → vp_in (a9 j) 3) (hp : post (pt_bk a8 a9 k a14).1 (f0, f1, f2, f3, f4, f5, f6, a1, a2, a3, a4, a5, a6, a7, a8, a9, a10, a11, a12, a13, (pt_bk a8 a9 k a14).2, a15, a16)) : wpX_back post (f0, f1, f2, f3, f4, f5, f6, a1, a2, a3, a4, a5, a6, a7, a8, a9, a10, a11, a12, a13, a14, a15, a16) (nI k) :=
  nm_e (pt_back_l k a14 hk hb hp)
/-- take: the next node from x on that fits, or none -/
theorem pt_take_l {N k r c t : Nat} {sy lf rt ld : Nat → Nat} (hS : pt_sh N sy lf rt) (hL : pt_lead N ld) (hg : pt_gm N sy lf rt ld a1 a2 a3 a4) (hk : k < 10) (hr : r < 16) (e10 : a10 k = nI r) (e13 : a13 r = nI c) (hc : c < 20) (e9 : a9 k = nI t) (ht : t < 22) :
    ∀ (d x : Nat), x + d = N →
    (∃ m, x ≤ m ∧ m < N ∧ ld m = c ∧ sy m = t ∧ (∀ j, x ≤ j → j < m → ¬ (ld j = c ∧ sy j = t)) ∧ ∀ post : Int32 → St1 → Prop, wX_take_58 post (nI k) (nI m) (nI N) f1 f2 f3 f4 f5 f6 a1 a2 a3 a4 a5 a6 a7 a8 a9 a10 a11 a12 a13 a14 a15 a16 → ∃ n, wX_take_9 post (nI k) (nI N) f1 f2 f3 f4 f5 f6 a1 a2 a3 a4 a5 a6 a7 a8 a9 a10 a11 a12 a13 a14 a15 a16 n (nI x)) ∨
    ((∀ j, x ≤ j → j < N → ¬ (ld j = c ∧ sy j = t)) ∧ ∀ post : Int32 → St1 → Prop, post 0 (nI N, f1, f2, f3, f4, f5, f6, a1, a2, a3, a4, a5, a6, a7, a8, a9, a10, a11, a12, a13, a14, a15, a16) → ∃ n, wX_take_9 post (nI k) (nI N) f1 f2 f3 f4 f5 f6 a1 a2 a3 a4 a5 a6 a7 a8 a9 a10 a11 a12 a13 a14 a15 a16 n (nI x)) := by
  have hN := hS.1
  intro d
  induction d with
  | zero =>
    intro x hx
    exact Or.inr ⟨fun j h1 h2 => absurd h2 (by omega), fun post hp => ⟨0 + 1, pk_le N x (fun _ => pk_lt x N (fun z => absurd z (by omega)) (fun _ => hp)) (fun z => absurd z (by omega))⟩⟩
  | succ d ih =>
    intro x hx
    have hx' : x < N := by omega
    have s := hS.2 x hx'
    have l := hL x hx'
    have g := hg x hx'
    have cx : (nI x).toNatClampNeg = x := nI_clamp (by omega)
    have ck : (nI k).toNatClampNeg = k := nI_clamp (by omega)
    have cr : (nI r).toNatClampNeg = r := nI_clamp (by omega)
    have E10 : a10 (nI k).toNatClampNeg = nI r := by rw [ck]; exact e10
    have E13 : a13 (a10 (nI k).toNatClampNeg).toNatClampNeg = nI c := by rw [E10, cr]; exact e13
    have E9 : a9 (nI k).toNatClampNeg = nI t := by rw [ck]; exact e9
    have E1 : a1 (nI x).toNatClampNeg = nI (sy x) := by rw [cx]; exact g.1
    have E4 : a4 (nI x).toNatClampNeg = nI (ld x) := by rw [cx]; exact g.2.2.2
    have hin : vp_in (a10 (nI k).toNatClampNeg) 16 := by rw [E10]; exact pk_in r 16 hr
    by_cases h : ld x = c ∧ sy x = t
    · refine Or.inl ⟨x, Nat.le_refl x, hx', h.1, h.2, fun j h1 h2 => absurd h2 (by omega), fun post hp => ⟨0 + 1, ?_⟩⟩
      refine pk_le N x (fun z => absurd z (by omega)) (fun _ => ⟨pk_in x 20 (by omega), pk_in k 10 hk, hin, br_t (by rw [E4, E13, h.1]) ⟨pk_in x 20 (by omega), pk_in k 10 hk, br_t (by rw [E1, E9, h.2]) hp⟩⟩)
    · have st : ∀ post : Int32 → St1 → Prop, ∀ n, wX_take_9 post (nI k) (nI N) f1 f2 f3 f4 f5 f6 a1 a2 a3 a4 a5 a6 a7 a8 a9 a10 a11 a12 a13 a14 a15 a16 n (nI (x + 1)) → wX_take_9 post (nI k) (nI N) f1 f2 f3 f4 f5 f6 a1 a2 a3 a4 a5 a6 a7 a8 a9 a10 a11 a12 a13 a14 a15 a16 (n + 1) (nI x) := by
        intro post n hn
        refine pk_le N x (fun z => absurd z (by omega)) (fun _ => ⟨pk_in x 20 (by omega), pk_in k 10 hk, hin, ?_⟩)
        refine pk_eq (ld x) c (fun z => ⟨pk_in x 20 (by omega), pk_in k 10 hk, ?_⟩) (fun z => nm_r (nI_1 x) hn) E4 E13
        exact pk_eq (sy x) t (fun y => absurd ⟨z, y⟩ h) (fun y => nm_r (nI_1 x) hn) E1 E9
      rcases ih (x + 1) (by omega) with ⟨m, m1, m2, m3, m4, m5, m6⟩ | ⟨m1, m2⟩
      · refine Or.inl ⟨m, by omega, m2, m3, m4, fun j h1 h2 => ?_, fun post hp => ?_⟩
        · by_cases e : j = x
          · rw [e]; exact h
          · exact m5 j (by omega) h2
        · obtain ⟨n, hn⟩ := m6 post hp
          exact ⟨n + 1, st post n hn⟩
      · refine Or.inr ⟨fun j h1 h2 => ?_, fun post hp => ?_⟩
        · by_cases e : j = x
          · rw [e]; exact h
          · exact m1 j (by omega) h2
        · obtain ⟨n, hn⟩ := m2 post hp
          exact ⟨n + 1, st post n hn⟩
/-- the registers behind a taken node -/
def pt_regs (lf rt ld : Nat → Nat) (t m nr : Nat) (a13 : Nat → Int32) : Nat → Int32 := if t = 21 then upd (upd a13 nr (nI (ld (lf m)))) (nr + 1) (nI (ld (rt m))) else upd a13 nr (nI (ld (lf m)))
theorem pt_take_58 {N k t m nr : Nat} {sy lf rt ld : Nat → Nat} {post : Int32 → St1 → Prop} (hS : pt_sh N sy lf rt) (hL : pt_lead N ld) (hg : pt_gm N sy lf rt ld a1 a2 a3 a4) (hk : k < 8) (hm : m < N) (hnr : nr < 15) (e11 : a11 k = nI nr) (hs : sy m = t) (ht : 15 < t)
    (hp : post 1 (nI N, f1, f2, f3, f4, f5, f6, a1, a2, a3, a4, a5, a6, a7, a8, a9, a10, a11, a12, pt_regs lf rt ld t m nr a13, a14, upd a15 k (nI m), a16)) : wX_take_58 post (nI k) (nI m) (nI N) f1 f2 f3 f4 f5 f6 a1 a2 a3 a4 a5 a6 a7 a8 a9 a10 a11 a12 a13 a14 a15 a16 := by
  have hN := hS.1
  have s := hS.2 m hm
  have s2 := s.2.2.2 (by omega)
  have g := hg m hm
  have l1 := (hL _ s2.1).1
  have l2 := (hL _ s2.2).1
  have cm : (nI m).toNatClampNeg = m := nI_clamp (by omega)
  have ck : (nI k).toNatClampNeg = k := nI_clamp (by omega)
  have cr : (nI nr).toNatClampNeg = nr := nI_clamp (by omega)
  have cr1 : (nI nr + 1).toNatClampNeg = nr + 1 := by rw [nI_1]; exact nI_clamp (by omega)
  have E1 : a1 (nI m).toNatClampNeg = nI (sy m) := by rw [cm]; exact g.1
  have E2 : a2 (nI m).toNatClampNeg = nI (lf m) := by rw [cm]; exact g.2.1
  have E3 : a3 (nI m).toNatClampNeg = nI (rt m) := by rw [cm]; exact g.2.2.1
  have E4 : vp_nar .byte (a4 (a2 (nI m).toNatClampNeg).toNatClampNeg) = nI (ld (lf m)) := by
    rw [E2, nI_clamp (show lf m < 2 ^ 31 by omega), (hg _ s2.1).2.2.2]; exact pt_nar (by omega)
  have E5 : vp_nar .byte (a4 (a3 (nI m).toNatClampNeg).toNatClampNeg) = nI (ld (rt m)) := by
    rw [E3, nI_clamp (show rt m < 2 ^ 31 by omega), (hg _ s2.2).2.2.2]; exact pt_nar (by omega)
  refine pk_lt m N (fun _ => ⟨pk_in k 10 (by omega), nm_r (e' := upd a15 k (nI m)) (by rw [ck, pt_b8 m (by omega)]) ⟨pk_in k 8 hk, nm_r (e' := nI nr) (by rw [ck]; exact e11) ⟨pk_in m 20 (by omega), by rw [E2]; exact pk_in (lf m) 20 (by omega), pk_in nr 16 (by omega), nm_r (e' := upd a13 nr (nI (ld (lf m)))) (by rw [E4, cr]) ⟨pk_in m 20 (by omega), ?_⟩⟩⟩⟩) (fun z => absurd z (by omega))
  unfold pt_regs at hp
  refine pk_eq (sy m) 21 (fun z => ⟨pk_in m 20 (by omega), by rw [E3]; exact pk_in (rt m) 20 (by omega), pk_in (nr + 1) 16 (by omega) (nI_1 nr), nm_r (e' := upd (upd a13 nr (nI (ld (lf m)))) (nr + 1) (nI (ld (rt m)))) (by rw [E5, cr1]) ?_⟩) (fun z => ?_) E1
  · rw [if_pos (show t = 21 by omega)] at hp
    exact hp
  · rw [if_neg (show ¬ t = 21 by omega)] at hp
    exact hp
end
end
section
/-! ===== run: the code fits the tokens, and the machine finds what the pattern matches ===== -/
def pt_tok (t : Nat) : Prop := t ≤ 2 ∨ (10 ≤ t ∧ t ≤ 15) ∨ t = 20 ∨ t = 21
/-- the code from place k on is that of the tokens ts, with the waiting registers S, the next register nr, the set q of variables bound -/
def pt_code (a8 a9 a10 a11 : Nat → Int32) : Nat → List Nat → List Nat → Nat → Nat → Prop
  | k, [], S, _, _ => S = [] ∧ a8 k = 4
  | _, _ :: _, [], _, _ => False
  | k, t :: ts, r :: S, nr, q => a10 k = nI r ∧
    (if t ≤ 2 then a8 k = (if q.testBit t then 2 else 1) ∧ a9 k = nI t ∧ pt_code a8 a9 a10 a11 (k + 1) ts S nr (q ||| 2 ^ t)
     else if t ≤ 15 then a8 k = 3 ∧ a9 k = nI (t - 10) ∧ pt_code a8 a9 a10 a11 (k + 1) ts S nr q
     else a8 k = 0 ∧ a9 k = nI t ∧ a11 k = nI nr ∧ pt_code a8 a9 a10 a11 (k + 1) ts (if t = 21 then nr :: (nr + 1) :: S else nr :: S) (if t = 21 then nr + 2 else nr + 1) q)
/-- the waiting registers S hold the classes C -/
def pt_stk (a13 : Nat → Int32) (nr : Nat) : List Nat → List Nat → Prop
  | [], [] => True
  | r :: S, c :: C => r < nr ∧ a13 r = nI c ∧ c < 20 ∧ pt_stk a13 nr S C
  | _, _ => False
theorem pt_stk_f {a13 b13 : Nat → Int32} {nr nr' : Nat} (hn : nr ≤ nr') (h : ∀ r, r < nr → b13 r = a13 r) : ∀ S C : List Nat, pt_stk a13 nr S C → pt_stk b13 nr' S C := by
  intro S
  induction S with
  | nil =>
    intro C hs
    cases C with
    | nil => trivial
    | cons c C => exact hs
  | cons r S ih =>
    intro C hs
    cases C with
    | nil => exact hs
    | cons c C =>
      obtain ⟨h1, h2, h3, h4⟩ := hs
      exact ⟨by omega, by rw [h r h1]; exact h2, h3, ih C h4⟩
theorem pt_uu (v : Nat → Int32) (k : Nat) (x : Int32) (h : v k = -1) : upd (upd v k x) k (-1) = v := by
  funext j
  by_cases e : j = k
  · rw [e, pk_us, h]
  · rw [pk_un e, pk_un e]
theorem pt_dom {V : Nat → Nat} {q t c : Nat} (h : ∀ v, v < 3 → (V v = 0 ↔ q.testBit v = false)) : ∀ v, v < 3 → (pt_up V t (c + 1) v = 0 ↔ (q ||| 2 ^ t).testBit v = false) := by
  intro v hv
  rw [Nat.testBit_or, Nat.testBit_two_pow]
  by_cases e : v = t
  · rw [e, pt_up_s]; simp
  · rw [pt_up_n _ _ e, h v hv]
    have e' : ¬ t = v := fun z => e z.symm
    simp [e']
theorem pt_VOk_up {a14 : Nat → Int32} {V : Nat → Nat} {t c : Nat} (h : pt_VOk a14 V) (ht : t ≤ 2) (hc : c < 20) : pt_VOk (upd a14 t (nI c)) (pt_up V t (c + 1)) := by
  intro i hi
  by_cases e : i = t
  · rw [e, pk_us, pt_up_s]
    exact ⟨by omega, Or.inr ⟨by omega, by rw [Nat.add_sub_cancel]⟩⟩
  · rw [pk_un e, pt_up_n _ _ e]
    exact h i hi
section
variable {f0 f1 f2 f3 f4 f5 f6 : Int32} {a1 a2 a3 a4 a5 a6 a7 a8 a9 a10 a11 a12 a13 a14 a15 : Nat → Int32} {a16 : Nat → Int64}
theorem pt_run_b {post : St1 → Prop} {n k : Nat} (hk : k ≤ 10) (hb : ∀ j, j < k → a8 j = 1 → vp_in (a9 j) 3) (h : wX_run_37 post n (pt_bk a8 a9 k a14).1 f0 f1 f2 f3 f4 f5 f6 a1 a2 a3 a4 a5 a6 a7 a8 a9 a10 a11 a12 a13 ((pt_bk a8 a9 k a14).2) a15 a16) : wX_run_63 post (wX_run_37 post n) (nI k) 0 f0 f1 f2 f3 f4 f5 f6 a1 a2 a3 a4 a5 a6 a7 a8 a9 a10 a11 a12 a13 a14 a15 a16 :=
  br_t rfl (pt_back hk hb h)
theorem pt_run_f {post : St1 → Prop} {n k : Nat} (hk : k < 9) (h : wX_run_37 post n (nI (k + 1)) f0 f1 f2 f3 f4 f5 f6 a1 a2 a3 a4 a5 a6 a7 a8 a9 a10 a11 a12 a13 a14 (upd a15 (k + 1) (-1)) a16) : wX_run_63 post (wX_run_37 post n) (nI k) 1 f0 f1 f2 f3 f4 f5 f6 a1 a2 a3 a4 a5 a6 a7 a8 a9 a10 a11 a12 a13 a14 a15 a16 :=
  br_f (by decide) (nm_r (nI_1 k) ⟨pk_in (k + 1) 10 (by omega), nm_r (by rw [nI_clamp (by omega)]) h⟩)
theorem pt_run_d {post : St1 → Prop} {n k : Nat} (hk : k < 10) (h0 : ¬ a8 k = 0) (h : wpX_decide (fun r u => match u with | (f0, f1, f2, f3, f4, f5, f6, a1, a2, a3, a4, a5, a6, a7, a8, a9, a10, a11, a12, a13, a14, a15, a16) => wX_run_63 post (wX_run_37 post n) (nI k) r f0 f1 f2 f3 f4 f5 f6 a1 a2 a3 a4 a5 a6 a7 a8 a9 a10 a11 a12 a13 a14 a15 a16) (f0, f1, f2, f3, f4, f5, f6, a1, a2, a3, a4, a5, a6, a7, a8, a9, a10, a11, a12, a13, a14, a15, a16) (nI k)) : wX_run_37 post (n + 1) (nI k) f0 f1 f2 f3 f4 f5 f6 a1 a2 a3 a4 a5 a6 a7 a8 a9 a10 a11 a12 a13 a14 a15 a16 :=
  br_f (nI_pos (by omega)) ⟨pk_in k 10 hk, br_f (by rw [nI_clamp (by omega)]; exact h0) h⟩
theorem pt_run_t {post : St1 → Prop} {n k : Nat} (hk : k < 10) (h0 : a8 k = 0) (h : wpX_take (fun r u => match u with | (f0, f1, f2, f3, f4, f5, f6, a1, a2, a3, a4, a5, a6, a7, a8, a9, a10, a11, a12, a13, a14, a15, a16) => wX_run_63 post (wX_run_37 post n) (nI k) r f0 f1 f2 f3 f4 f5 f6 a1 a2 a3 a4 a5 a6 a7 a8 a9 a10 a11 a12 a13 a14 a15 a16) (f0, f1, f2, f3, f4, f5, f6, a1, a2, a3, a4, a5, a6, a7, a8, a9, a10, a11, a12, a13, a14, a15, a16) (nI k)) : wX_run_37 post (n + 1) (nI k) f0 f1 f2 f3 f4 f5 f6 a1 a2 a3 a4 a5 a6 a7 a8 a9 a10 a11 a12 a13 a14 a15 a16 :=
  br_f (nI_pos (by omega)) ⟨pk_in k 10 hk, br_t (by rw [nI_clamp (by omega)]; exact h0) h⟩
/-- decide, by the operation -/
theorem pt_dec_y {post : Int32 → St1 → Prop} {V : Nat → Nat} {k : Nat} (hk : k < 10) (e8 : a8 k = 4) (hV : pt_VOk a14 V) (hp : post 0 (f0, f1, f2, f3, f4, f5, f6, a1, a2, a3, a4, a5, a6, a7, a8, a9, a10, a11, a12, a13, a14, a15, vp_updL a16 (nI (pt_enc V) >>> ((6 : Int32) &&& 31)).toNatClampNeg ((a16 (nI (pt_enc V) >>> ((6 : Int32) &&& 31)).toNatClampNeg) ||| ((1 : Int64) <<< ((nI (pt_enc V) &&& 63).toInt64 &&& 63))))) : wpX_decide post (f0, f1, f2, f3, f4, f5, f6, a1, a2, a3, a4, a5, a6, a7, a8, a9, a10, a11, a12, a13, a14, a15, a16) (nI k) :=
  ⟨pk_in k 10 hk, nm_r (e' := 4) (by rw [nI_clamp (by omega)]; exact e8) (br_t rfl (pt_note_w hV hp))⟩
theorem pt_dec_c2 {post : Int32 → St1 → Prop} {k r c t : Nat} (hk : k < 10) (e8 : a8 k = 2) (e10 : a10 k = nI r) (hr : r < 16) (e13 : a13 r = nI c) (e9 : a9 k = nI t) (ht : t < 3) (h1 : a14 t = nI c → post 1 (f0, f1, f2, f3, f4, f5, f6, a1, a2, a3, a4, a5, a6, a7, a8, a9, a10, a11, a12, a13, a14, a15, a16)) (h0 : ¬ a14 t = nI c → post 0 (f0, f1, f2, f3, f4, f5, f6, a1, a2, a3, a4, a5, a6, a7, a8, a9, a10, a11, a12, a13, a14, a15, a16)) : wpX_decide post (f0, f1, f2, f3, f4, f5, f6, a1, a2, a3, a4, a5, a6, a7, a8, a9, a10, a11, a12, a13, a14, a15, a16) (nI k) := by
  have ck : (nI k).toNatClampNeg = k := nI_clamp (by omega)
  have cr : (nI r).toNatClampNeg = r := nI_clamp (by omega)
  have ct : (nI t).toNatClampNeg = t := nI_clamp (by omega)
  refine ⟨pk_in k 10 hk, nm_r (e' := 2) (by rw [ck]; exact e8) (br_f (by decide) ⟨pk_in k 10 hk, by rw [ck, e10]; exact pk_in r 16 hr, nm_r (e' := nI c) (by rw [ck, e10, cr]; exact e13) ⟨pk_in k 10 hk, nm_r (e' := nI t) (by rw [ck]; exact e9) (br_t rfl ⟨pk_in t 3 ht, br_c (fun z => h1 ?_) (fun z => h0 ?_)⟩)⟩⟩)⟩
  · rw [ct] at z; exact z
  · rw [ct] at z; exact z
theorem pt_dec_c3 {post : Int32 → St1 → Prop} {N : Nat} {sy lf rt ld : Nat → Nat} (hS : pt_sh N sy lf rt) (hg : pt_gm N sy lf rt ld a1 a2 a3 a4) {k r c t : Nat} (hk : k < 10) (e8 : a8 k = 3) (e10 : a10 k = nI r) (hr : r < 16) (e13 : a13 r = nI c) (e9 : a9 k = nI t) (ht : t < 20) (h1 : pt_coc sy lf ld t N 0 = nI c → post 1 (nI N, f1, f2, f3, f4, f5, f6, a1, a2, a3, a4, a5, a6, a7, a8, a9, a10, a11, a12, a13, a14, a15, a16)) (h0 : ¬ pt_coc sy lf ld t N 0 = nI c → post 0 (nI N, f1, f2, f3, f4, f5, f6, a1, a2, a3, a4, a5, a6, a7, a8, a9, a10, a11, a12, a13, a14, a15, a16)) : wpX_decide post (nI N, f1, f2, f3, f4, f5, f6, a1, a2, a3, a4, a5, a6, a7, a8, a9, a10, a11, a12, a13, a14, a15, a16) (nI k) := by
  have ck : (nI k).toNatClampNeg = k := nI_clamp (by omega)
  have cr : (nI r).toNatClampNeg = r := nI_clamp (by omega)
  exact ⟨pk_in k 10 hk, nm_r (e' := 3) (by rw [ck]; exact e8) (br_f (by decide) ⟨pk_in k 10 hk, by rw [ck, e10]; exact pk_in r 16 hr, nm_r (e' := nI c) (by rw [ck, e10, cr]; exact e13) ⟨pk_in k 10 hk, nm_r (e' := nI t) (by rw [ck]; exact e9) (br_f (by decide) (br_t rfl (pt_coc_w hS hg ht (br_c h1 h0))))⟩⟩)⟩
theorem pt_dec_c1 {post : Int32 → St1 → Prop} {k r c t : Nat} (hk : k < 10) (e8 : a8 k = 1) (e10 : a10 k = nI r) (hr : r < 16) (e13 : a13 r = nI c) (hc : c < 20) (e9 : a9 k = nI t) (ht : t < 3) (hp : post 1 (f0, f1, f2, f3, f4, f5, f6, a1, a2, a3, a4, a5, a6, a7, a8, a9, a10, a11, a12, a13, upd a14 t (nI c), a15, a16)) : wpX_decide post (f0, f1, f2, f3, f4, f5, f6, a1, a2, a3, a4, a5, a6, a7, a8, a9, a10, a11, a12, a13, a14, a15, a16) (nI k) := by
  have ck : (nI k).toNatClampNeg = k := nI_clamp (by omega)
  have cr : (nI r).toNatClampNeg = r := nI_clamp (by omega)
  have ct : (nI t).toNatClampNeg = t := nI_clamp (by omega)
  exact ⟨pk_in k 10 hk, nm_r (e' := 1) (by rw [ck]; exact e8) (br_f (by decide) ⟨pk_in k 10 hk, by rw [ck, e10]; exact pk_in r 16 hr, nm_r (e' := nI c) (by rw [ck, e10, cr]; exact e13) ⟨pk_in k 10 hk, nm_r (e' := nI t) (by rw [ck]; exact e9) (br_f (by decide) (br_f (by decide) ⟨pk_in t 3 ht, nm_r (e' := upd a14 t (nI c)) (by rw [ct, pt_b8 c (by omega)]) hp⟩))⟩⟩)⟩
/-- the machine from place k on -/
theorem pt_run_k {N : Nat} {sy lf rt ld : Nat → Nat} (hS : pt_sh N sy lf rt) (hL : pt_lead N ld) (hg : pt_gm N sy lf rt ld a1 a2 a3 a4) :
    ∀ (ts : List Nat) (k : Nat) (S : List Nat) (nr q : Nat) (C : List Nat) (V : Nat → Nat) (a13 a14 a15 : Nat → Int32) (a16 : Nat → Int64),
    (∀ t, t ∈ ts → pt_tok t) → k + ts.length ≤ 7 → nr ≤ 1 + 2 * k → pt_code a8 a9 a10 a11 k ts S nr q → pt_stk a13 nr S C → pt_VOk a14 V → (∀ v, v < 3 → (V v = 0 ↔ q.testBit v = false)) → (∀ j, j < k → a8 j = 1 → vp_in (a9 j) 3) → a15 k = -1 →
    ∃ (b13 b15 : Nat → Int32) (b16 : Nat → Int64), (∀ r, r < nr → b13 r = a13 r) ∧ (∀ j, j < k → b15 j = a15 j) ∧ (∀ x, x < 8000 → pt_bit b16 x = (pt_bit a16 x || pt_dec (pt_sem N sy lf rt ld ts C V x))) ∧
    ∀ post : St1 → Prop, (∃ n, wX_run_37 post n (pt_bk a8 a9 k a14).1 (nI N) f1 f2 f3 f4 f5 f6 a1 a2 a3 a4 a5 a6 a7 a8 a9 a10 a11 a12 b13 ((pt_bk a8 a9 k a14).2) b15 b16) → ∃ n, wX_run_37 post n (nI k) (nI N) f1 f2 f3 f4 f5 f6 a1 a2 a3 a4 a5 a6 a7 a8 a9 a10 a11 a12 a13 a14 a15 a16 := by
  intro ts
  induction ts with
  | nil =>
    intro k S nr q C V a13 a14 a15 a16 _ hk hnr hcode hstk hV hdom hb h15
    obtain ⟨hS0, e8⟩ := hcode
    subst hS0
    have hC : C = [] := by
      cases C with
      | nil => rfl
      | cons c C => exact absurd hstk (by simp [pt_stk])
    subst hC
    have hk' : k ≤ 7 := by simpa using hk
    refine ⟨a13, a15, vp_updL a16 (nI (pt_enc V) >>> ((6 : Int32) &&& 31)).toNatClampNeg ((a16 (nI (pt_enc V) >>> ((6 : Int32) &&& 31)).toNatClampNeg) ||| ((1 : Int64) <<< ((nI (pt_enc V) &&& 63).toInt64 &&& 63))), fun r _ => rfl, fun j _ => rfl, fun x hx => ?_, fun post hn => ?_⟩
    rotate_left 1
    · obtain ⟨n, hn⟩ := hn
      exact ⟨n + 1, pt_run_d (by omega) (by rw [e8]; decide) (pt_dec_y (by omega) e8 hV (pt_run_b (by omega) hb hn))⟩
    · rw [pt_note _ (pt_enc_lt hV)]
      congr 1
      apply Bool.eq_iff_iff.mpr
      rw [pt_dec_t, decide_eq_true_iff]
      exact Iff.rfl
  | cons t ts ih =>
    intro k S nr q C V a13 a14 a15 a16 htok hk hnr hcode hstk hV hdom hb h15
    have hlen : k + ts.length + 1 ≤ 7 := by simpa [Nat.add_assoc] using hk
    have ht := htok t (List.mem_cons_self ..)
    have htok' : ∀ t, t ∈ ts → pt_tok t := fun t h => htok t (List.mem_cons_of_mem _ h)
    cases S with
    | nil => exact absurd hcode (by simp [pt_code])
    | cons r S =>
    cases C with
    | nil => exact absurd hstk (by simp [pt_stk])
    | cons c C =>
    obtain ⟨hr, e13, hc, hstk'⟩ := hstk
    simp only [pt_code] at hcode
    obtain ⟨e10, hcode⟩ := hcode
    have hu : upd a15 (k + 1) (-1) (k + 1) = -1 := pk_us
    have hu' : ∀ j, j < k + 1 → upd a15 (k + 1) (-1) j = a15 j := fun j hj => pk_un (by omega)
    by_cases h2 : t ≤ 2
    · rw [if_pos h2] at hcode
      obtain ⟨e8, e9, hcode⟩ := hcode
      by_cases hv : V t = 0
      · -- bind
        have hq := (hdom t (by omega)).mp hv
        rw [hq] at e8
        have e8' : a8 k = 1 := e8
        have hm1 : a14 t = -1 := by
          rcases (hV t (by omega)).2 with z | z
          · exact z.2
          · exact absurd hv z.1
        have hb' : ∀ j, j < k + 1 → a8 j = 1 → vp_in (a9 j) 3 := by
          intro j hj h
          by_cases e : j = k
          · rw [e, e9]; exact pk_in t 3 (by omega)
          · exact hb j (by omega) h
        obtain ⟨b13, b15, b16, g13, g15, g16, hw⟩ := ih (k + 1) S nr (q ||| 2 ^ t) C (pt_up V t (c + 1)) a13 (upd a14 t (nI c)) (upd a15 (k + 1) (-1)) a16 htok' (by omega) (by omega) hcode hstk' (pt_VOk_up hV h2 hc) (pt_dom hdom) hb' hu
        have ebk : pt_bk a8 a9 (k + 1) (upd a14 t (nI c)) = pt_bk a8 a9 k a14 := by
          conv => lhs; unfold pt_bk
          rw [if_neg (by rw [e8']; decide), if_pos e8', e9, nI_clamp (show t < 2 ^ 31 by omega), pt_uu _ _ _ hm1]
        rw [ebk] at hw
        refine ⟨b13, b15, b16, g13, fun j hj => (g15 j (by omega)).trans (hu' j (by omega)), fun x hx => ?_, fun post hn => ?_⟩
        · rw [g16 x hx]
          simp only [pt_sem]
          rw [if_pos h2, if_pos hv]
        · obtain ⟨n, hn⟩ := hw post hn
          exact ⟨n + 1, pt_run_d (by omega) (by rw [e8']; decide) (pt_dec_c1 (by omega) e8' e10 (by omega) e13 hc e9 (by omega) (pt_run_f (by omega) hn))⟩
      · -- compare
        have hq : q.testBit t = true := by
          cases z : q.testBit t with
          | true => rfl
          | false => exact absurd ((hdom t (by omega)).mpr z) hv
        rw [hq] at e8
        have e8' : a8 k = 2 := e8
        have hq2 : ∀ v, v < 3 → (V v = 0 ↔ (q ||| 2 ^ t).testBit v = false) := by
          intro v hv'
          rw [hdom v hv', Nat.testBit_or, Nat.testBit_two_pow]
          by_cases e : t = v
          · subst e; rw [hq]; simp
          · simp [e]
        have hav : a14 t = nI (V t - 1) := by
          rcases (hV t (by omega)).2 with z | z
          · exact absurd z.1 hv
          · exact z.2
        have hVt := (hV t (by omega)).1
        have hcmp : a14 t = nI c ↔ V t = c + 1 := by
          rw [hav, nI_eq (by omega) (by omega)]; omega
        have hb' : ∀ j, j < k + 1 → a8 j = 1 → vp_in (a9 j) 3 := by
          intro j hj h
          by_cases e : j = k
          · rw [e, e8'] at h; exact absurd h (by decide)
          · exact hb j (by omega) h
        have ebk : pt_bk a8 a9 (k + 1) a14 = pt_bk a8 a9 k a14 := by
          conv => lhs; unfold pt_bk
          rw [if_neg (by rw [e8']; decide), if_neg (by rw [e8']; decide)]
        by_cases hcc : V t = c + 1
        · obtain ⟨b13, b15, b16, g13, g15, g16, hw⟩ := ih (k + 1) S nr (q ||| 2 ^ t) C V a13 a14 (upd a15 (k + 1) (-1)) a16 htok' (by omega) (by omega) hcode hstk' hV hq2 hb' hu
          rw [ebk] at hw
          refine ⟨b13, b15, b16, g13, fun j hj => (g15 j (by omega)).trans (hu' j (by omega)), fun x hx => ?_, fun post hn => ?_⟩
          · rw [g16 x hx]
            congr 1
            apply pt_dec_c
            simp only [pt_sem]
            rw [if_pos h2, if_neg hv]
            exact ⟨fun z => ⟨hcc, z⟩, fun z => z.2⟩
          · obtain ⟨n, hn⟩ := hw post hn
            exact ⟨n + 1, pt_run_d (by omega) (by rw [e8']; decide) (pt_dec_c2 (by omega) e8' e10 (by omega) e13 e9 (by omega) (fun _ => pt_run_f (by omega) hn) (fun z => absurd (hcmp.mpr hcc) z))⟩
        · refine ⟨a13, a15, a16, fun _ _ => rfl, fun _ _ => rfl, fun x hx => ?_, fun post hn => ?_⟩
          · have : pt_dec (pt_sem N sy lf rt ld (t :: ts) (c :: C) V x) = false := by
              rw [pt_dec_f]
              simp only [pt_sem]
              rw [if_pos h2, if_neg hv]
              exact fun z => hcc z.1
            rw [this, Bool.or_false]
          · obtain ⟨n, hn⟩ := hn
            exact ⟨n + 1, pt_run_d (by omega) (by rw [e8']; decide) (pt_dec_c2 (by omega) e8' e10 (by omega) e13 e9 (by omega) (fun z => absurd (hcmp.mp z) hcc) (fun _ => pt_run_b (by omega) hb hn))⟩
    · rw [if_neg h2] at hcode
      by_cases h15' : t ≤ 15
      · -- check
        rw [if_pos h15'] at hcode
        obtain ⟨e8, e9, hcode⟩ := hcode
        have hb' : ∀ j, j < k + 1 → a8 j = 1 → vp_in (a9 j) 3 := by
          intro j hj h
          by_cases e : j = k
          · rw [e, e8] at h; exact absurd h (by decide)
          · exact hb j (by omega) h
        have ebk : pt_bk a8 a9 (k + 1) a14 = pt_bk a8 a9 k a14 := by
          conv => lhs; unfold pt_bk
          rw [if_neg (by rw [e8]; decide), if_neg (by rw [e8]; decide)]
        by_cases hcc : pt_coc sy lf ld (t - 10) N 0 = nI c
        · obtain ⟨b13, b15, b16, g13, g15, g16, hw⟩ := ih (k + 1) S nr q C V a13 a14 (upd a15 (k + 1) (-1)) a16 htok' (by omega) (by omega) hcode hstk' hV hdom hb' hu
          rw [ebk] at hw
          refine ⟨b13, b15, b16, g13, fun j hj => (g15 j (by omega)).trans (hu' j (by omega)), fun x hx => ?_, fun post hn => ?_⟩
          · rw [g16 x hx]
            congr 1
            apply pt_dec_c
            simp only [pt_sem]
            rw [if_neg h2, if_pos h15']
            exact ⟨fun z => ⟨hcc, z⟩, fun z => z.2⟩
          · obtain ⟨n, hn⟩ := hw post hn
            exact ⟨n + 1, pt_run_d (by omega) (by rw [e8]; decide) (pt_dec_c3 hS hg (by omega) e8 e10 (by omega) e13 e9 (by omega) (fun _ => pt_run_f (by omega) hn) (fun z => absurd hcc z))⟩
        · refine ⟨a13, a15, a16, fun _ _ => rfl, fun _ _ => rfl, fun x hx => ?_, fun post hn => ?_⟩
          · have : pt_dec (pt_sem N sy lf rt ld (t :: ts) (c :: C) V x) = false := by
              rw [pt_dec_f]
              simp only [pt_sem]
              rw [if_neg h2, if_pos h15']
              exact fun z => hcc z.1
            rw [this, Bool.or_false]
          · obtain ⟨n, hn⟩ := hn
            exact ⟨n + 1, pt_run_d (by omega) (by rw [e8]; decide) (pt_dec_c3 hS hg (by omega) e8 e10 (by omega) e13 e9 (by omega) (fun z => absurd z hcc) (fun _ => pt_run_b (by omega) hb hn))⟩
      · -- take
        rw [if_neg h15'] at hcode
        obtain ⟨e8, e9, e11, hcode⟩ := hcode
        have ht22 : t < 22 := by unfold pt_tok at ht; omega
        have hb' : ∀ j, j < k + 1 → a8 j = 1 → vp_in (a9 j) 3 := by
          intro j hj h
          by_cases e : j = k
          · rw [e, e8] at h; exact absurd h (by decide)
          · exact hb j (by omega) h
        have ebk : ∀ v, pt_bk a8 a9 (k + 1) v = (nI k, v) := by
          intro v
          conv => lhs; unfold pt_bk
          rw [if_pos e8]
        have key : ∀ (d x : Nat) (a13 a15 : Nat → Int32) (a16 : Nat → Int64), x + d = N → a15 k + 1 = nI x → a13 r = nI c → pt_stk a13 nr S C →
            ∃ (b13 b15 : Nat → Int32) (b16 : Nat → Int64), (∀ r, r < nr → b13 r = a13 r) ∧ (∀ j, j < k → b15 j = a15 j) ∧ (∀ y, y < 8000 → pt_bit b16 y = (pt_bit a16 y || pt_dec (∃ m, x ≤ m ∧ m < N ∧ ld m = c ∧ sy m = t ∧ pt_sem N sy lf rt ld ts (pt_kids lf rt ld t m C) V y))) ∧
            ∀ post : St1 → Prop, (∃ n, wX_run_37 post n (pt_bk a8 a9 k a14).1 (nI N) f1 f2 f3 f4 f5 f6 a1 a2 a3 a4 a5 a6 a7 a8 a9 a10 a11 a12 b13 ((pt_bk a8 a9 k a14).2) b15 b16) → ∃ n, wX_run_37 post n (nI k) (nI N) f1 f2 f3 f4 f5 f6 a1 a2 a3 a4 a5 a6 a7 a8 a9 a10 a11 a12 a13 a14 a15 a16 := by
          intro d
          induction d using Nat.strongRecOn with
          | ind d ihd =>
          intro x a13 a15 a16 hx h15 e13 hstk'
          have ck : (nI k).toNatClampNeg = k := nI_clamp (by omega)
          have hx1 : a15 (nI k).toNatClampNeg + 1 = nI x := by rw [ck]; exact h15
          rcases pt_take_l (f1 := f1) (f2 := f2) (f3 := f3) (f4 := f4) (f5 := f5) (f6 := f6) (a5 := a5) (a6 := a6) (a7 := a7) (a8 := a8) (a11 := a11) (a12 := a12) (a14 := a14) (a15 := a15) (a16 := a16) hS hL hg (show k < 10 by omega) (show r < 16 by omega) e10 e13 hc e9 ht22 d x hx with ⟨m, m1, m2, m3, m4, m5, m6⟩ | ⟨m1, m2⟩
          · have s2 := (hS.2 m m2).2.2.2 (by omega)
            have hN := hS.1
            have l1 := (hL _ s2.1).1
            have l2 := (hL _ s2.2).1
            have hfr : ∀ r, r < nr → pt_regs lf rt ld t m nr a13 r = a13 r := by
              intro r hr
              unfold pt_regs
              split
              · rw [pk_un (by omega), pk_un (by omega)]
              · rw [pk_un (by omega)]
            have hst2 : pt_stk (pt_regs lf rt ld t m nr a13) (if t = 21 then nr + 2 else nr + 1) (if t = 21 then nr :: (nr + 1) :: S else nr :: S) (pt_kids lf rt ld t m C) := by
              have hnr' : nr ≤ (if t = 21 then nr + 2 else nr + 1) := by split <;> omega
              have base := pt_stk_f hnr' hfr S C hstk'
              unfold pt_kids
              unfold pt_regs at base ⊢
              by_cases h21 : t = 21
              · simp only [if_pos h21] at base ⊢
                refine ⟨by omega, ?_, by omega, by omega, ?_, by omega, base⟩
                · rw [pk_un (by omega), pk_us]
                · rw [pk_us]
              · simp only [if_neg h21] at base ⊢
                refine ⟨by omega, ?_, by omega, base⟩
                rw [pk_us]
            obtain ⟨b13, b15, b16, g13, g15, g16, hw⟩ := ih (k + 1) _ (if t = 21 then nr + 2 else nr + 1) q (pt_kids lf rt ld t m C) V (pt_regs lf rt ld t m nr a13) a14 (upd (upd a15 k (nI m)) (k + 1) (-1)) a16 htok' (by omega) (by split <;> omega) hcode hst2 hV hdom hb' pk_us
            rw [ebk] at hw
            have g13' : ∀ r, r < nr → b13 r = a13 r := fun r hr => (g13 r (by split <;> omega)).trans (hfr r hr)
            have hbk : b15 k + 1 = nI (m + 1) := by
              rw [g15 k (by omega), pk_un (by omega), pk_us, nI_1]
            obtain ⟨d13, d15, d16, k13, k15, k16, hw2⟩ := ihd (N - (m + 1)) (by omega) (m + 1) b13 b15 b16 (by omega) hbk (by rw [g13' r hr]; exact e13) (pt_stk_f (Nat.le_refl nr) g13' S C hstk')
            refine ⟨d13, d15, d16, fun r hr => (k13 r hr).trans (g13' r hr), fun j hj => ?_, fun y hy => ?_, fun post hn => ?_⟩
            · rw [k15 j hj, g15 j (by omega), pk_un (by omega), pk_un (by omega)]
            · rw [k16 y hy, g16 y hy, Bool.or_assoc, ← pt_dec_or]
              congr 1
              apply pt_dec_c
              constructor
              · rintro (z | ⟨m', z1, z2, z3, z4, z5⟩)
                · exact ⟨m, m1, m2, m3, m4, z⟩
                · exact ⟨m', by omega, z2, z3, z4, z5⟩
              · rintro ⟨m', z1, z2, z3, z4, z5⟩
                by_cases e : m' = m
                · subst e; exact Or.inl z5
                · by_cases e' : m' < m
                  · exact absurd ⟨z3, z4⟩ (m5 m' z1 e')
                  · exact Or.inr ⟨m', by omega, z2, z3, z4, z5⟩
            · obtain ⟨n, hn⟩ := hw post (hw2 post hn)
              refine ⟨n + 1, pt_run_t (by omega) e8 ⟨pk_in k 10 (by omega), nm_r hx1 (m6 _ ?_)⟩⟩
              exact pt_take_58 hS hL hg (by omega) m2 (by omega) e11 m4 (by omega) (pt_run_f (by omega) hn)
          · refine ⟨a13, a15, a16, fun _ _ => rfl, fun _ _ => rfl, fun y hy => ?_, fun post hn => ?_⟩
            · have : pt_dec (∃ m, x ≤ m ∧ m < N ∧ ld m = c ∧ sy m = t ∧ pt_sem N sy lf rt ld ts (pt_kids lf rt ld t m C) V y) = false := by
                rw [pt_dec_f]
                rintro ⟨m, z1, z2, z3, z4, _⟩
                exact m1 m z1 z2 ⟨z3, z4⟩
              rw [this, Bool.or_false]
            · obtain ⟨n, hn⟩ := hn
              exact ⟨n + 1, pt_run_t (by omega) e8 ⟨pk_in k 10 (by omega), nm_r hx1 (m2 _ (pt_run_b (by omega) hb hn))⟩⟩
        obtain ⟨b13, b15, b16, g13, g15, g16, hw⟩ := key N 0 a13 a15 a16 (by omega) (by rw [h15]; decide) e13 hstk'
        refine ⟨b13, b15, b16, g13, g15, fun x hx => ?_, hw⟩
        rw [g16 x hx]
        congr 1
        apply pt_dec_c
        simp only [pt_sem]
        rw [if_neg h2, if_neg h15']
        constructor
        · rintro ⟨m, _, z⟩
          exact ⟨m, z⟩
        · rintro ⟨m, z⟩
          exact ⟨m, Nat.zero_le m, z⟩
end
end
section
/-! ===== run, runAll, foundCount; compile ===== -/
/-- the tokens from place k on -/
def pt_tk (a7 : Nat → Int32) : Nat → List Nat → Prop
  | _, [] => True
  | k, t :: ts => a7 k = nI t ∧ pt_tk a7 (k + 1) ts
/-- the pending registers: the last one on top -/
def pt_os (a12 : Nat → Int32) : List Nat → Prop
  | [] => True
  | r :: S => a12 S.length = nI r ∧ pt_os a12 S
theorem pt_os_f {a12 b12 : Nat → Int32} : ∀ S : List Nat, (∀ j, j < S.length → b12 j = a12 j) → pt_os a12 S → pt_os b12 S := by
  intro S
  induction S with
  | nil => intro _ _; trivial
  | cons r S ih =>
    intro h hs
    exact ⟨by rw [h S.length (by simp)]; exact hs.1, ih (fun j hj => h j (by simp; omega)) hs.2⟩
/-- a whole pattern: d places wanting -/
def pt_wh : List Nat → Nat → Bool
  | [], 0 => true
  | [], _ + 1 => false
  | _ :: _, 0 => false
  | t :: ts, d + 1 => pt_wh ts (if t ≤ 15 then d else if t = 21 then d + 2 else d + 1)
def pt_vs : List Nat → Nat → Nat
  | [], q => q
  | t :: ts, q => pt_vs ts (if t ≤ 2 then q ||| 2 ^ t else q)
theorem pt_mt : ∀ q, q < 8 → ∀ t, t < 3 → (((nI q >>> (nI t &&& 31)) &&& 1) = 0 ↔ q.testBit t = false) := by decide +kernel
theorem pt_mo : ∀ q, q < 8 → ∀ t, t < 3 → nI q ||| ((1 : Int32) <<< (nI t &&& 31)) = nI (q ||| 2 ^ t) := by decide +kernel
theorem pt_ml : ∀ q, q < 8 → ∀ t, t < 3 → q ||| 2 ^ t < 8 := by decide +kernel
/-- what compile leaves -/
def pt_CC (T : List Nat) (f4 f5 : Int32) (a8 a9 a10 a11 : Nat → Int32) : Prop := f4 = (if pt_wh T 1 then 1 else 0) ∧ (pt_wh T 1 = true → pt_code a8 a9 a10 a11 0 T [0] 1 0 ∧ f5 = nI (pt_vs T 0))
section
variable {f0 f1 f2 f3 f4 f5 f6 : Int32} {a1 a2 a3 a4 a5 a6 a7 a8 a9 a10 a11 a12 a13 a14 a15 : Nat → Int32} {a16 : Nat → Int64}
theorem pt_run {N : Nat} {sy lf rt ld : Nat → Nat} {T : List Nat} {c : Nat} (hS : pt_sh N sy lf rt) (hL : pt_lead N ld) (hg : pt_gm N sy lf rt ld a1 a2 a3 a4) (htok : ∀ t, t ∈ T → pt_tok t) (hlen : T.length ≤ 7) (hcode : pt_code a8 a9 a10 a11 0 T [0] 1 0) (hc : c < 20) :
    ∃ (b13 b14 b15 : Nat → Int32) (b16 : Nat → Int64), (∀ x, x < 8000 → pt_bit b16 x = (pt_bit a16 x || pt_dec (pt_sem N sy lf rt ld T [c] (fun _ => 0) x))) ∧ ∀ post : St1 → Prop, post (nI N, f1, f2, f3, f4, f5, f6, a1, a2, a3, a4, a5, a6, a7, a8, a9, a10, a11, a12, b13, b14, b15, b16) → wpX_run post (nI N, f1, f2, f3, f4, f5, f6, a1, a2, a3, a4, a5, a6, a7, a8, a9, a10, a11, a12, a13, a14, a15, a16) (nI c) := by
  have hV : pt_VOk (upd (upd (upd a14 0 (-1)) 1 (-1)) 2 (-1)) (fun _ => 0) := by
    intro i hi
    refine ⟨by show (0 : Nat) ≤ 20; omega, Or.inl ⟨rfl, ?_⟩⟩
    have hi' : i = 0 ∨ i = 1 ∨ i = 2 := by omega
    rcases hi' with e | e | e <;> subst e
    · rw [pk_un (by omega), pk_un (by omega), pk_us]
    · rw [pk_un (by omega), pk_us]
    · rw [pk_us]
  obtain ⟨b13, b15, b16, _, _, g16, hw⟩ := pt_run_k (f1 := f1) (f2 := f2) (f3 := f3) (f4 := f4) (f5 := f5) (f6 := f6) (a5 := a5) (a6 := a6) (a7 := a7) (a12 := a12) hS hL hg T 0 [0] 1 0 [c] (fun _ => 0) (upd a13 0 (nI c)) (upd (upd (upd a14 0 (-1)) 1 (-1)) 2 (-1)) (upd a15 0 (-1)) a16 htok (by omega) (by omega) hcode ⟨by omega, pk_us, hc, trivial⟩ hV (fun v _ => by simp) (fun j hj => absurd hj (by omega)) pk_us
  refine ⟨b13, upd (upd (upd a14 0 (-1)) 1 (-1)) 2 (-1), b15, b16, g16, fun post hp => ?_⟩
  have h37 := hw post ⟨0 + 1, br_t (show (-1 : Int32) < 0 by decide) hp⟩
  refine nm_r (e' := upd a13 0 (nI c)) (by rw [pt_b8 c (by omega)]) ⟨0 + 1 + 1 + 1 + 1, ?_⟩
  refine pk_le 3 0 (fun z => absurd z (by omega)) (fun _ => ⟨pk_in 0 3 (by omega), nm_r (e' := upd a14 0 (-1)) rfl (nm_r (nI_1 0) ?_)⟩)
  refine pk_le 3 1 (fun z => absurd z (by omega)) (fun _ => ⟨pk_in 1 3 (by omega), nm_r (e' := upd (upd a14 0 (-1)) 1 (-1)) rfl (nm_r (nI_1 1) ?_)⟩)
  refine pk_le 3 2 (fun z => absurd z (by omega)) (fun _ => ⟨pk_in 2 3 (by omega), nm_r (e' := upd (upd (upd a14 0 (-1)) 1 (-1)) 2 (-1)) rfl (nm_r (nI_1 2) ?_)⟩)
  exact pk_le 3 3 (fun _ => nm_e h37) (fun z => absurd z (by omega))
theorem pt_all_l {N : Nat} {sy lf rt ld : Nat → Nat} {T : List Nat} (hS : pt_sh N sy lf rt) (hL : pt_lead N ld) (hg : pt_gm N sy lf rt ld a1 a2 a3 a4) (htok : ∀ t, t ∈ T → pt_tok t) (hlen : T.length ≤ 7) (hcode : pt_code a8 a9 a10 a11 0 T [0] 1 0) :
    ∀ (d i : Nat) (a13 a14 a15 : Nat → Int32) (a16 : Nat → Int64), i + d = N → ∃ (b13 b14 b15 : Nat → Int32) (b16 : Nat → Int64), (∀ x, x < 8000 → pt_bit b16 x = (pt_bit a16 x || pt_dec (∃ m, i ≤ m ∧ m < N ∧ ld m = m ∧ pt_sem N sy lf rt ld T [m] (fun _ => 0) x))) ∧ ∀ post : St1 → Prop, post (nI N, f1, f2, f3, f4, f5, f6, a1, a2, a3, a4, a5, a6, a7, a8, a9, a10, a11, a12, b13, b14, b15, b16) → ∃ n, wX_runAll_6 post n (nI i) (nI N) f1 f2 f3 f4 f5 f6 a1 a2 a3 a4 a5 a6 a7 a8 a9 a10 a11 a12 a13 a14 a15 a16 := by
  have hN := hS.1
  intro d
  induction d with
  | zero =>
    intro i a13 a14 a15 a16 hi
    refine ⟨a13, a14, a15, a16, fun x hx => ?_, fun post hp => ⟨0 + 1, pk_le N i (fun _ => hp) (fun z => absurd z (by omega))⟩⟩
    have : pt_dec (∃ m, i ≤ m ∧ m < N ∧ ld m = m ∧ pt_sem N sy lf rt ld T [m] (fun _ => 0) x) = false := by
      rw [pt_dec_f]
      rintro ⟨m, z1, z2, _⟩
      omega
    rw [this, Bool.or_false]
  | succ d ih =>
    intro i a13 a14 a15 a16 hi
    have hi' : i < N := by omega
    have E4 : a4 (nI i).toNatClampNeg = nI (ld i) := by rw [nI_clamp (by omega)]; exact (hg i hi').2.2.2
    have hli := (hL i hi').1
    by_cases h : ld i = i
    · obtain ⟨b13, b14, b15, b16, g16, hr⟩ := pt_run (f1 := f1) (f2 := f2) (f3 := f3) (f4 := f4) (f5 := f5) (f6 := f6) (a5 := a5) (a6 := a6) (a7 := a7) (a12 := a12) (a13 := a13) (a14 := a14) (a15 := a15) (a16 := a16) (c := i) hS hL hg htok hlen hcode (by omega)
      obtain ⟨d13, d14, d15, d16, k16, hw⟩ := ih (i + 1) b13 b14 b15 b16 (by omega)
      refine ⟨d13, d14, d15, d16, fun x hx => ?_, fun post hp => ?_⟩
      · rw [k16 x hx, g16 x hx, Bool.or_assoc, ← pt_dec_or]
        congr 1
        apply pt_dec_c
        constructor
        · rintro (z | ⟨m, z1, z2, z3, z4⟩)
          · exact ⟨i, Nat.le_refl i, hi', h, z⟩
          · exact ⟨m, by omega, z2, z3, z4⟩
        · rintro ⟨m, z1, z2, z3, z4⟩
          by_cases e : m = i
          · subst e; exact Or.inl z4
          · exact Or.inr ⟨m, by omega, z2, z3, z4⟩
      · obtain ⟨n, hn⟩ := hw post hp
        exact ⟨n + 1, pk_le N i (fun z => absurd z (by omega)) (fun _ => ⟨pk_in i 20 (by omega), pk_eq (ld i) i (fun _ => hr _ (nm_r (nI_1 i) hn)) (fun z => absurd h z) E4⟩)⟩
    · obtain ⟨d13, d14, d15, d16, k16, hw⟩ := ih (i + 1) a13 a14 a15 a16 (by omega)
      refine ⟨d13, d14, d15, d16, fun x hx => ?_, fun post hp => ?_⟩
      · rw [k16 x hx]
        congr 1
        apply pt_dec_c
        constructor
        · rintro ⟨m, z1, z2, z3, z4⟩
          exact ⟨m, by omega, z2, z3, z4⟩
        · rintro ⟨m, z1, z2, z3, z4⟩
          by_cases e : m = i
          · subst e; exact absurd z3 h
          · exact ⟨m, by omega, z2, z3, z4⟩
      · obtain ⟨n, hn⟩ := hw post hp
        exact ⟨n + 1, pk_le N i (fun z => absurd z (by omega)) (fun _ => ⟨pk_in i 20 (by omega), pk_eq (ld i) i (fun z => absurd z h) (fun _ => nm_r (nI_1 i) hn) E4⟩)⟩
/-- the matches at all leaders, at one class -/
def pt_all (N : Nat) (sy lf rt ld : Nat → Nat) (T : List Nat) (i x : Nat) : Prop := ∃ m, m < i ∧ ld m = m ∧ pt_sem N sy lf rt ld T [m] (fun _ => 0) x
theorem pt_runAll {N : Nat} {sy lf rt ld : Nat → Nat} {T : List Nat} (hS : pt_sh N sy lf rt) (hL : pt_lead N ld) (hg : pt_gm N sy lf rt ld a1 a2 a3 a4) (htok : ∀ t, t ∈ T → pt_tok t) (hlen : T.length ≤ 7) (hcode : pt_code a8 a9 a10 a11 0 T [0] 1 0) :
    ∃ (b13 b14 b15 : Nat → Int32) (b16 : Nat → Int64), (∀ x, x < 8000 → pt_bit b16 x = pt_dec (pt_all N sy lf rt ld T N x)) ∧ ∀ post : St1 → Prop, post (nI N, f1, f2, f3, f4, f5, f6, a1, a2, a3, a4, a5, a6, a7, a8, a9, a10, a11, a12, b13, b14, b15, b16) → wpX_runAll post (nI N, f1, f2, f3, f4, f5, f6, a1, a2, a3, a4, a5, a6, a7, a8, a9, a10, a11, a12, a13, a14, a15, a16) := by
  obtain ⟨c16, hc, hw⟩ := pt_clear (f0 := nI N) (f1 := f1) (f2 := f2) (f3 := f3) (f4 := f4) (f5 := f5) (f6 := f6) (a1 := a1) (a2 := a2) (a3 := a3) (a4 := a4) (a5 := a5) (a6 := a6) (a7 := a7) (a8 := a8) (a9 := a9) (a10 := a10) (a11 := a11) (a12 := a12) (a13 := a13) (a14 := a14) (a15 := a15) (a16 := a16)
  obtain ⟨b13, b14, b15, b16, g16, hr⟩ := pt_all_l (f1 := f1) (f2 := f2) (f3 := f3) (f4 := f4) (f5 := f5) (f6 := f6) (a5 := a5) (a6 := a6) (a7 := a7) (a12 := a12) hS hL hg htok hlen hcode N 0 a13 a14 a15 c16 (by omega)
  refine ⟨b13, b14, b15, b16, fun x hx => ?_, fun post hp => hw _ (hr post hp)⟩
  rw [g16 x hx, pt_bit0 hc hx, Bool.false_or]
  apply pt_dec_c
  constructor
  · rintro ⟨m, _, z⟩
    exact ⟨m, z⟩
  · rintro ⟨m, z⟩
    exact ⟨m, Nat.zero_le m, z⟩
theorem pt_fc_l {post : Int32 → Prop} (hp : post (nI (pt_cnt (pt_bit a16) 8000))) : ∀ (d i : Nat), i + d = 8000 → ∃ n, wX_foundCount_4 post f0 f1 f2 f3 f4 f5 f6 a1 a2 a3 a4 a5 a6 a7 a8 a9 a10 a11 a12 a13 a14 a15 a16 n (nI (pt_cnt (pt_bit a16) i)) (nI i) := by
  intro d
  induction d with
  | zero =>
    intro i hi
    have e : i = 8000 := by omega
    subst e
    exact ⟨0 + 1, pk_le 8000 8000 (fun _ => hp) (fun z => absurd z (by omega))⟩
  | succ d ih =>
    intro i hi
    obtain ⟨n, hn⟩ := ih (i + 1) (by omega)
    have hi' : i < 8000 := by omega
    refine ⟨n + 1, pk_le 8000 i (fun z => absurd z (by omega)) (fun _ => ⟨by rw [pt_ix hi']; exact pk_in (i / 64) 125 (by omega), nm_r (e' := nI (pt_cnt (pt_bit a16) (i + 1))) ?_ (nm_r (nI_1 i) hn)⟩)⟩
    rw [pt_read a16 hi']
    rw [show pt_cnt (pt_bit a16) (i + 1) = pt_cnt (pt_bit a16) i + (if pt_bit a16 i then 1 else 0) from rfl, ← nI_add]
    congr 1
    cases pt_bit a16 i <;> rfl
theorem pt_fc {post : Int32 → Prop} (hp : post (nI (pt_cnt (pt_bit a16) 8000))) : wpX_foundCount post (f0, f1, f2, f3, f4, f5, f6, a1, a2, a3, a4, a5, a6, a7, a8, a9, a10, a11, a12, a13, a14, a15, a16) :=
  pt_fc_l hp 8000 0 (by omega)
theorem pt_write {post : St1 → Prop} {k p0 p1 p2 : Nat} (hk : k < 10) (h0 : p0 < 128) (h1 : p1 < 128) (h2 : p2 < 128) (hp : post (f0, f1, f2, f3, f4, f5, nI (k + 1), a1, a2, a3, a4, a5, a6, a7, upd a8 k (nI p0), upd a9 k (nI p1), upd a10 k (nI p2), a11, a12, a13, a14, a15, a16)) : wpX_write post (f0, f1, f2, f3, f4, f5, nI k, a1, a2, a3, a4, a5, a6, a7, a8, a9, a10, a11, a12, a13, a14, a15, a16) (nI p0) (nI p1) (nI p2) := by
  have ck : (nI k).toNatClampNeg = k := nI_clamp (by omega)
  exact ⟨pk_in k 10 hk, nm_r (by rw [ck, pt_b8 p0 h0]) ⟨pk_in k 10 hk, nm_r (by rw [ck, pt_b8 p1 h1]) ⟨pk_in k 10 hk, nm_r (by rw [ck, pt_b8 p2 h2]) (nm_r (nI_1 k) hp)⟩⟩⟩
theorem pt_cend {post : St1 → Prop} {k : Nat} {b : Bool} (hk : k < 10) (hp : post (f0, f1, f2, f3, (if b then 1 else 0), f5, nI (k + 1), a1, a2, a3, a4, a5, a6, a7, upd a8 k (nI 4), upd a9 k (nI 0), upd a10 k (nI 0), a11, a12, a13, a14, a15, a16)) : wX_compile_233 post (if b then 1 else 0) f0 f1 f2 f3 f4 f5 (nI k) a1 a2 a3 a4 a5 a6 a7 a8 a9 a10 a11 a12 a13 a14 a15 a16 := by
  refine ⟨?_, ?_, pt_write (p0 := 4) (p1 := 0) (p2 := 0) hk (by omega) (by omega) (by omega) hp⟩
  · cases b <;> decide
  · cases b <;> decide
theorem pt_cmp_l {M : Nat} (hM : M ≤ 7) : ∀ (ts : List Nat) (k : Nat) (S : List Nat) (nr q : Nat) (f4 : Int32) (a8 a9 a10 a11 a12 : Nat → Int32), pt_tk a7 k ts → (∀ t, t ∈ ts → pt_tok t) → k + ts.length = M → S.length ≤ k + 1 → nr ≤ 1 + 2 * k → (∀ r, r ∈ S → r < nr) → q < 8 → pt_os a12 S →
    ∃ (g5 g6 : Int32) (b8 b9 b10 b11 b12 : Nat → Int32), (∀ j, j < k → b8 j = a8 j ∧ b9 j = a9 j ∧ b10 j = a10 j ∧ b11 j = a11 j) ∧ (pt_wh ts S.length = true → pt_code b8 b9 b10 b11 k ts S nr q ∧ g5 = nI (pt_vs ts q)) ∧
    ∀ post : St1 → Prop, post (f0, f1, nI M, f3, (if pt_wh ts S.length then 1 else 0), g5, g6, a1, a2, a3, a4, a5, a6, a7, b8, b9, b10, b11, b12, a13, a14, a15, a16) → ∃ n, wX_compile_41 post n (nI S.length) (nI nr) (nI k) f0 f1 (nI M) f3 f4 (nI q) (nI k) a1 a2 a3 a4 a5 a6 a7 a8 a9 a10 a11 a12 a13 a14 a15 a16 := by
  intro ts
  induction ts with
  | nil =>
    intro k S nr q f4 a8 a9 a10 a11 a12 _ _ hk hSl _ _ _ _
    have hk' : k = M := by simpa using hk
    refine ⟨nI q, nI (k + 1), upd a8 k (nI 4), upd a9 k (nI 0), upd a10 k (nI 0), a11, a12, fun j hj => ⟨pk_un (by omega), pk_un (by omega), pk_un (by omega), rfl⟩, fun hw => ?_, fun post hp => ⟨0 + 1, pk_le M k (fun _ => ?_) (fun z => absurd z (by omega))⟩⟩
    · cases S with
      | nil => exact ⟨⟨rfl, pk_us⟩, rfl⟩
      | cons r S => exact absurd hw (by simp [pt_wh])
    · cases S with
      | nil => exact br_t rfl (br_t (by rw [hk']) (pt_cend (b := true) (by omega) hp))
      | cons r S =>
        refine br_f ?_ (pt_cend (b := false) (by omega) hp)
        exact nI_ne0 (by simp) (by omega)
  | cons t ts ih =>
    intro k S nr q f4 a8 a9 a10 a11 a12 htk htok hk hSl hnr hSr hq hos
    have hk1 : k + 1 + ts.length = M := by simp at hk; omega
    have ht := htok t (List.mem_cons_self ..)
    have htok' : ∀ t, t ∈ ts → pt_tok t := fun t h => htok t (List.mem_cons_of_mem _ h)
    cases S with
    | nil =>
      refine ⟨nI q, nI (k + 1), upd a8 k (nI 4), upd a9 k (nI 0), upd a10 k (nI 0), a11, a12, fun j hj => ⟨pk_un (by omega), pk_un (by omega), pk_un (by omega), rfl⟩, fun hw => absurd hw (by simp [pt_wh]), fun post hp => ⟨0 + 1, pk_le M k (fun z => absurd z (by omega)) (fun _ => br_t (by decide) ?_)⟩⟩
      refine br_t rfl (br_f ?_ (pt_cend (b := false) (by omega) hp))
      rw [nI_eq (by omega) (by omega)]
      omega
    | cons r S =>
      have hSl' : S.length ≤ k := by simpa using hSl
      have hr : r < nr := hSr r (List.mem_cons_self ..)
      have hSr' : ∀ r, r ∈ S → r < nr := fun r h => hSr r (List.mem_cons_of_mem _ h)
      obtain ⟨e12, hos'⟩ := hos
      obtain ⟨e7, htk'⟩ := htk
      have ck : (nI k).toNatClampNeg = k := nI_clamp (by omega)
      have cs : (nI S.length).toNatClampNeg = S.length := nI_clamp (by omega)
      have E7 : a7 (nI k).toNatClampNeg = nI t := by rw [ck]; exact e7
      have E12 : a12 (nI S.length).toNatClampNeg = nI r := by rw [cs]; exact e12
      have ht22 : t < 22 := by unfold pt_tok at ht; omega
      have hin8 : vp_in (nI S.length) 8 := pk_in S.length 8 (by omega)
      by_cases h2 : t ≤ 2
      · -- a variable
        have hcode : ∀ z : Nat, z < 128 → ∀ (b8 b9 b10 b11 : Nat → Int32), (∀ j, j < k + 1 → b8 j = upd a8 k (nI z) j ∧ b9 j = upd a9 k (nI t) j ∧ b10 j = upd a10 k (nI r) j ∧ b11 j = a11 j) → b8 k = nI z ∧ b9 k = nI t ∧ b10 k = nI r := by
          intro z _ b8 b9 b10 b11 h
          have g := h k (by omega)
          exact ⟨by rw [g.1, pk_us], by rw [g.2.1, pk_us], by rw [g.2.2.1, pk_us]⟩
        obtain ⟨g5, g6, b8, b9, b10, b11, b12, hfr, hcd, hw⟩ := ih (k + 1) S nr (q ||| 2 ^ t) f4 (upd a8 k (nI (if q.testBit t then 2 else 1))) (upd a9 k (nI t)) (upd a10 k (nI r)) a11 a12 htk' htok' hk1 (by omega) (by omega) hSr' (pt_ml q hq t (by omega)) hos'
        have ewh : pt_wh (t :: ts) (r :: S).length = pt_wh ts S.length := by
          show pt_wh ts (if t ≤ 15 then S.length else if t = 21 then S.length + 2 else S.length + 1) = _
          rw [if_pos (by omega)]
        have hz : (if q.testBit t then 2 else 1) < 128 := by split <;> omega
        have hb := hcode _ hz b8 b9 b10 b11 hfr
        refine ⟨g5, g6, b8, b9, b10, b11, b12, fun j hj => ?_, fun hwh => ?_, fun post hp => ?_⟩
        · have g := hfr j (by omega)
          rw [pk_un (by omega), pk_un (by omega), pk_un (by omega)] at g
          exact g
        · rw [ewh] at hwh
          obtain ⟨c1, c2⟩ := hcd hwh
          refine ⟨?_, ?_⟩
          · simp only [pt_code]
            rw [if_pos h2]
            refine ⟨hb.2.2, ?_, hb.2.1, c1⟩
            rw [hb.1]
            cases q.testBit t <;> rfl
          · rw [c2]
            show _ = nI (pt_vs ts (if t ≤ 2 then q ||| 2 ^ t else q))
            rw [if_pos h2]
        · rw [ewh] at hp
          obtain ⟨n, hn⟩ := hw post hp
          refine ⟨n + 1, pk_le M k (fun z => absurd z (by omega)) (fun _ => pk_le (S.length + 1) 0 (fun z => absurd z (by omega)) (fun _ => ⟨pk_in k 7 (by omega), nm_r E7 (nm_r (nI_1 k) (nm_r (pk_m1 S.length) ⟨hin8, nm_r E12 (pk_lt 2 t (fun z => absurd z (by omega)) (fun _ => ?_))⟩))⟩) )⟩
          have w99 : ∀ z : Nat, z = (if q.testBit t then 2 else 1) → wX_compile_99 post (wX_compile_41 post n) (nI S.length) (nI nr) (nI (k + 1)) (nI t) (nI r) (nI z) f0 f1 (nI M) f3 f4 (nI q) (nI k) a1 a2 a3 a4 a5 a6 a7 a8 a9 a10 a11 a12 a13 a14 a15 a16 := by
            intro z ez
            subst ez
            exact pt_write (by omega) hz (by omega) (by omega) (nm_r (pt_mo q hq t (by omega)) hn)
          refine br_c (fun z => w99 1 ?_) (fun z => w99 2 ?_)
          · rw [(pt_mt q hq t (by omega)).mp z]; rfl
          · have : q.testBit t = true := by
              cases e : q.testBit t with
              | true => rfl
              | false => exact absurd ((pt_mt q hq t (by omega)).mpr e) z
            rw [this]; rfl
      · by_cases h15 : t ≤ 15
        · -- a constant
          have ht10 : 10 ≤ t := by unfold pt_tok at ht; omega
          obtain ⟨g5, g6, b8, b9, b10, b11, b12, hfr, hcd, hw⟩ := ih (k + 1) S nr q f4 (upd a8 k (nI 3)) (upd a9 k (nI (t - 10))) (upd a10 k (nI r)) a11 a12 htk' htok' hk1 (by omega) (by omega) hSr' hq hos'
          have ewh : pt_wh (t :: ts) (r :: S).length = pt_wh ts S.length := by
            show pt_wh ts (if t ≤ 15 then S.length else if t = 21 then S.length + 2 else S.length + 1) = _
            rw [if_pos (by omega)]
          have hb := hfr k (by omega)
          rw [pk_us, pk_us, pk_us] at hb
          refine ⟨g5, g6, b8, b9, b10, b11, b12, fun j hj => ?_, fun hwh => ?_, fun post hp => ?_⟩
          · have g := hfr j (by omega)
            rw [pk_un (by omega), pk_un (by omega), pk_un (by omega)] at g
            exact g
          · rw [ewh] at hwh
            obtain ⟨c1, c2⟩ := hcd hwh
            refine ⟨?_, ?_⟩
            · simp only [pt_code]
              rw [if_neg h2, if_pos h15]
              exact ⟨hb.2.2.1, hb.1, hb.2.1, c1⟩
            · rw [c2]
              show _ = nI (pt_vs ts (if t ≤ 2 then q ||| 2 ^ t else q))
              rw [if_neg h2]
          · rw [ewh] at hp
            obtain ⟨n, hn⟩ := hw post hp
            refine ⟨n + 1, pk_le M k (fun z => absurd z (by omega)) (fun _ => pk_le (S.length + 1) 0 (fun z => absurd z (by omega)) (fun _ => ⟨pk_in k 7 (by omega), nm_r E7 (nm_r (nI_1 k) (nm_r (pk_m1 S.length) ⟨hin8, nm_r E12 (pk_lt 2 t (fun _ => pk_lt 15 t (fun z => absurd z (by omega)) (fun _ => ?_)) (fun z => absurd z (by omega)))⟩))⟩) )⟩
            rw [show nI t - 10 = nI (t - 10) from pk_sub (b := 10) ht10]
            exact pt_write (p0 := 3) (by omega) (by omega) (by omega) (by omega) hn
        · -- a symbol
          have ht20 : t = 20 ∨ t = 21 := by unfold pt_tok at ht; omega
          have cs1 : (nI (S.length + 1)).toNatClampNeg = S.length + 1 := nI_clamp (by omega)
          have opn : ∀ (S' : List Nat) (nr' : Nat) (b12 : Nat → Int32), S' = (if t = 21 then nr :: (nr + 1) :: S else nr :: S) → nr' = (if t = 21 then nr + 2 else nr + 1) → pt_os b12 S' → (∀ (post : St1 → Prop) (n : Nat), wX_compile_41 post n (nI S'.length) (nI nr') (nI (k + 1)) f0 f1 (nI M) f3 f4 (nI q) (nI (k + 1)) a1 a2 a3 a4 a5 a6 a7 (upd a8 k (nI 0)) (upd a9 k (nI t)) (upd a10 k (nI r)) (upd a11 k (nI nr)) b12 a13 a14 a15 a16 → wX_compile_41 post (n + 1) (nI (r :: S).length) (nI nr) (nI k) f0 f1 (nI M) f3 f4 (nI q) (nI k) a1 a2 a3 a4 a5 a6 a7 a8 a9 a10 a11 a12 a13 a14 a15 a16) →
              ∃ (g5 g6 : Int32) (b8 b9 b10 b11 b12 : Nat → Int32), (∀ j, j < k → b8 j = a8 j ∧ b9 j = a9 j ∧ b10 j = a10 j ∧ b11 j = a11 j) ∧ (pt_wh (t :: ts) (r :: S).length = true → pt_code b8 b9 b10 b11 k (t :: ts) (r :: S) nr q ∧ g5 = nI (pt_vs (t :: ts) q)) ∧
              ∀ post : St1 → Prop, post (f0, f1, nI M, f3, (if pt_wh (t :: ts) (r :: S).length then 1 else 0), g5, g6, a1, a2, a3, a4, a5, a6, a7, b8, b9, b10, b11, b12, a13, a14, a15, a16) → ∃ n, wX_compile_41 post n (nI (r :: S).length) (nI nr) (nI k) f0 f1 (nI M) f3 f4 (nI q) (nI k) a1 a2 a3 a4 a5 a6 a7 a8 a9 a10 a11 a12 a13 a14 a15 a16 := by
            intro S' nr' c12 eS' enr' hos2 hstep
            have hlen' : S'.length ≤ k + 2 := by rw [eS']; split <;> simp <;> omega
            have hnr2 : nr' ≤ 1 + 2 * (k + 1) := by rw [enr']; split <;> omega
            have hSr2 : ∀ r, r ∈ S' → r < nr' := by
              intro r' hr'
              rw [eS'] at hr'
              rw [enr']
              by_cases h21 : t = 21
              · rw [if_pos h21] at hr' ⊢
                simp only [List.mem_cons] at hr'
                rcases hr' with z | z | z
                · omega
                · omega
                · have := hSr' r' z; omega
              · rw [if_neg h21] at hr' ⊢
                simp only [List.mem_cons] at hr'
                rcases hr' with z | z
                · omega
                · have := hSr' r' z; omega
            obtain ⟨g5, g6, b8, b9, b10, b11, b12, hfr, hcd, hw⟩ := ih (k + 1) S' nr' q f4 (upd a8 k (nI 0)) (upd a9 k (nI t)) (upd a10 k (nI r)) (upd a11 k (nI nr)) c12 htk' htok' hk1 hlen' hnr2 hSr2 hq hos2
            have ewh : pt_wh (t :: ts) (r :: S).length = pt_wh ts S'.length := by
              show pt_wh ts (if t ≤ 15 then S.length else if t = 21 then S.length + 2 else S.length + 1) = _
              rw [if_neg h15, eS']
              by_cases h21 : t = 21
              · rw [if_pos h21, if_pos h21]; rfl
              · rw [if_neg h21, if_neg h21]; rfl
            have hb := hfr k (by omega)
            rw [pk_us, pk_us, pk_us, pk_us] at hb
            refine ⟨g5, g6, b8, b9, b10, b11, b12, fun j hj => ?_, fun hwh => ?_, fun post hp => ?_⟩
            · have g := hfr j (by omega)
              rw [pk_un (by omega), pk_un (by omega), pk_un (by omega), pk_un (by omega)] at g
              exact g
            · rw [ewh] at hwh
              obtain ⟨c1, c2⟩ := hcd hwh
              refine ⟨?_, ?_⟩
              · simp only [pt_code]
                rw [if_neg h2, if_neg h15, ← eS', ← enr']
                exact ⟨hb.2.2.1, hb.1, hb.2.1, hb.2.2.2, c1⟩
              · rw [c2]
                show _ = nI (pt_vs ts (if t ≤ 2 then q ||| 2 ^ t else q))
                rw [if_neg h2]
            · rw [ewh] at hp
              obtain ⟨n, hn⟩ := hw post hp
              exact ⟨n + 1, hstep post n hn⟩
          by_cases h21 : t = 21
          · refine opn (nr :: (nr + 1) :: S) (nr + 2) (upd (upd a12 S.length (nI (nr + 1))) (S.length + 1) (nI nr)) (by rw [if_pos h21]) (by rw [if_pos h21]) ?_ ?_
            · refine ⟨?_, ?_, pt_os_f S (fun j hj => ?_) hos'⟩
              · show upd (upd a12 S.length (nI (nr + 1))) (S.length + 1) (nI nr) (S.length + 1) = nI nr
                rw [pk_us]
              · show upd (upd a12 S.length (nI (nr + 1))) (S.length + 1) (nI nr) S.length = nI (nr + 1)
                rw [pk_un (by omega), pk_us]
              · rw [pk_un (by omega), pk_un (by omega)]
            · intro post n hn
              refine pk_le M k (fun z => absurd z (by omega)) (fun _ => pk_le (S.length + 1) 0 (fun z => absurd z (by omega)) (fun _ => ⟨pk_in k 7 (by omega), nm_r E7 (nm_r (nI_1 k) (nm_r (pk_m1 S.length) ⟨hin8, nm_r E12 (pk_lt 2 t (fun _ => pk_lt 15 t (fun _ => ?_) (fun z => absurd z (by omega))) (fun z => absurd z (by omega)))⟩))⟩))
              refine pt_write (p0 := 0) (by omega) (by omega) (by omega) (by omega) (pk_eq t 21 (fun _ => ⟨hin8, nm_r (e' := upd a12 S.length (nI (nr + 1))) (by rw [cs, nI_1, pt_b8 (nr + 1) (by omega)]) (nm_r (nI_1 S.length) ?_)⟩) (fun z => absurd h21 z))
              refine ⟨pk_in (S.length + 1) 8 (by omega), nm_r (e' := upd (upd a12 S.length (nI (nr + 1))) (S.length + 1) (nI nr)) (by rw [cs1, pt_b8 nr (by omega)]) (nm_r (nI_1 (S.length + 1)) ⟨pk_in k 8 (by omega) (nI_pred k), nm_r (e' := upd a11 k (nI nr)) (by rw [nI_pred, ck, pt_b8 nr (by omega)]) (pk_eq t 21 (fun _ => nm_r (nI_add nr 2) hn) (fun z => absurd h21 z))⟩)⟩
          · refine opn (nr :: S) (nr + 1) (upd a12 S.length (nI nr)) (by rw [if_neg h21]) (by rw [if_neg h21]) ?_ ?_
            · refine ⟨?_, pt_os_f S (fun j hj => ?_) hos'⟩
              · rw [pk_us]
              · rw [pk_un (by omega)]
            · intro post n hn
              refine pk_le M k (fun z => absurd z (by omega)) (fun _ => pk_le (S.length + 1) 0 (fun z => absurd z (by omega)) (fun _ => ⟨pk_in k 7 (by omega), nm_r E7 (nm_r (nI_1 k) (nm_r (pk_m1 S.length) ⟨hin8, nm_r E12 (pk_lt 2 t (fun _ => pk_lt 15 t (fun _ => ?_) (fun z => absurd z (by omega))) (fun z => absurd z (by omega)))⟩))⟩))
              refine pt_write (p0 := 0) (by omega) (by omega) (by omega) (by omega) (pk_eq t 21 (fun z => absurd z h21) (fun _ => ?_))
              refine ⟨hin8, nm_r (e' := upd a12 S.length (nI nr)) (by rw [cs, pt_b8 nr (by omega)]) (nm_r (nI_1 S.length) ⟨pk_in k 8 (by omega) (nI_pred k), nm_r (e' := upd a11 k (nI nr)) (by rw [nI_pred, ck, pt_b8 nr (by omega)]) (pk_eq t 21 (fun z => absurd z h21) (fun _ => nm_r (nI_1 nr) hn))⟩)⟩
theorem pt_compile {T : List Nat} (htok : ∀ t, t ∈ T → pt_tok t) (hlen : T.length ≤ 7) (htk : pt_tk a7 0 T) (hcc : ¬ f3 = 0 → pt_CC T f4 f5 a8 a9 a10 a11) :
    ∃ (g3 g4 g5 g6 : Int32) (b8 b9 b10 b11 b12 : Nat → Int32), ¬ g3 = 0 ∧ pt_CC T g4 g5 b8 b9 b10 b11 ∧ ∀ post : St1 → Prop, post (f0, f1, nI T.length, g3, g4, g5, g6, a1, a2, a3, a4, a5, a6, a7, b8, b9, b10, b11, b12, a13, a14, a15, a16) → wpX_compile post (f0, f1, nI T.length, f3, f4, f5, f6, a1, a2, a3, a4, a5, a6, a7, a8, a9, a10, a11, a12, a13, a14, a15, a16) := by
  by_cases h : f3 = 0
  · obtain ⟨g5, g6, b8, b9, b10, b11, b12, _, hcd, hw⟩ := pt_cmp_l (f0 := f0) (f1 := f1) (f3 := 1) (a1 := a1) (a2 := a2) (a3 := a3) (a4 := a4) (a5 := a5) (a6 := a6) (a7 := a7) (a13 := a13) (a14 := a14) (a15 := a15) (a16 := a16) hlen T 0 [0] 1 0 0 a8 a9 a10 a11 (upd a12 0 0) htk htok (by omega) (by simp) (by omega) (by simp) (by omega) ⟨pk_us, trivial⟩
    exact ⟨1, _, g5, g6, b8, b9, b10, b11, b12, by decide, ⟨rfl, hcd⟩, fun post hp => br_t h (nm_e (hw post hp))⟩
  · exact ⟨f3, f4, f5, f6, a8, a9, a10, a11, a12, h, hcc h, fun post hp => br_f h hp⟩
end
end
section
/-! ===== the answers as functions of the graph and the tokens ===== -/
/-- the state holds the graph and the tokens -/
def pt_I (N : Nat) (sy lf rt ld : Nat → Nat) (T : List Nat) (u : St1) : Prop := match u with
  | (f0, f1, f2, f3, f4, f5, f6, a1, a2, a3, a4, a5, a6, a7, a8, a9, a10, a11, a12, a13, a14, a15, a16) => pt_G N sy lf rt ld ∧ f0 = nI N ∧ pt_gm N sy lf rt ld a1 a2 a3 a4 ∧ f2 = nI T.length ∧ T.length ≤ 7 ∧ (∀ t, t ∈ T → pt_tok t) ∧ pt_tk a7 0 T ∧ (¬ f3 = 0 → pt_CC T f4 f5 a8 a9 a10 a11)
def pt_K (T : List Nat) (u : St1) : Prop := match u with
  | (f0, f1, f2, f3, f4, f5, f6, a1, a2, a3, a4, a5, a6, a7, a8, a9, a10, a11, a12, a13, a14, a15, a16) => pt_CC T f4 f5 a8 a9 a10 a11
def pt_F (b : Nat → Bool) (u : St1) : Prop := match u with
  | (f0, f1, f2, f3, f4, f5, f6, a1, a2, a3, a4, a5, a6, a7, a8, a9, a10, a11, a12, a13, a14, a15, a16) => ∀ x, x < 8000 → pt_bit a16 x = b x
noncomputable def pt_bA (N : Nat) (sy lf rt ld : Nat → Nat) (T : List Nat) (i : Nat) : Nat → Bool := fun x => pt_dec (pt_all N sy lf rt ld T i x)
noncomputable def pt_bC (N : Nat) (sy lf rt ld : Nat → Nat) (T : List Nat) (c : Nat) : Nat → Bool := fun x => pt_dec (pt_sem N sy lf rt ld T [c] (fun _ => 0) x)
noncomputable def pt_vM (N : Nat) (sy lf rt ld : Nat → Nat) (T : List Nat) : Int32 := if pt_wh T 1 then nI (pt_cnt (pt_bA N sy lf rt ld T N) 8000) else -3
noncomputable def pt_vA (N : Nat) (sy lf rt ld : Nat → Nat) (T : List Nat) (c : Nat) : Int32 := if pt_wh T 1 then nI (pt_cnt (pt_bC N sy lf rt ld T c) 8000) else -3
/-- binding: the k-th number found, from x on -/
def pt_bd (b : Nat → Bool) (v : Int32) : Nat → Nat → Int32 → Int32
  | 0, _, _ => -3
  | d + 1, x, k => if b x then (if k = 0 then (if v = 0 then nI x / 400 else if v = 1 then (nI x / 20) - (nI x / 20) / 20 * 20 else nI x - nI x / 20 * 20) else pt_bd b v d (x + 1) (k + (-1))) else pt_bd b v d (x + 1) k
theorem pt_bd_c {b c : Nat → Bool} {v : Int32} : ∀ (d x : Nat) (k : Int32), (∀ y, y < x + d → b y = c y) → pt_bd b v d x k = pt_bd c v d x k := by
  intro d
  induction d with
  | zero => intro x k _; rfl
  | succ d ih =>
    intro x k h
    unfold pt_bd
    rw [h x (by omega), ih (x + 1) k (fun y hy => h y (by omega)), ih (x + 1) (k + (-1)) (fun y hy => h y (by omega))]
noncomputable def pt_vB (N : Nat) (sy lf rt ld : Nat → Nat) (T : List Nat) (k v : Int32) : Int32 := if pt_wh T 1 then (if k < 0 then -3 else if ((nI (pt_vs T 0) >>> (v &&& 31)) &&& 1) = 0 then -3 else pt_bd (pt_bA N sy lf rt ld T N) v 8000 0 k) else -3
def pt_vC (N : Nat) (ld : Nat → Nat) : Int32 := nI (pt_cnt (fun i => ld i == i) N)
def pt_it (g : Nat → Int32 → Int32) : Nat → Nat → Int32 → Int32
  | 0, _, h => h
  | d + 1, i, h => pt_it g d (i + 1) (g i h)
noncomputable def pt_g1 (N : Nat) (sy lf rt ld : Nat → Nat) (T : List Nat) (i : Nat) (h : Int32) : Int32 := ((31 * h) + (7 * nI (ld i))) + pt_vA N sy lf rt ld T (ld i)
noncomputable def pt_g2 (N : Nat) (sy lf rt ld : Nat → Nat) (T : List Nat) (i : Nat) (h : Int32) : Int32 := ((31 * h) + pt_vB N sy lf rt ld T (nI i) 0) + (5 * pt_vB N sy lf rt ld T (nI i) 1)
noncomputable def pt_vS (N : Nat) (sy lf rt ld : Nat → Nat) (T : List Nat) : Int32 := pt_it (pt_g2 N sy lf rt ld T) 8 0 (pt_it (pt_g1 N sy lf rt ld T) N 0 ((31 * pt_vC N ld) + pt_vM N sy lf rt ld T))
section
variable {f0 f1 f2 f3 f4 f5 f6 : Int32} {a1 a2 a3 a4 a5 a6 a7 a8 a9 a10 a11 a12 a13 a14 a15 : Nat → Int32} {a16 : Nat → Int64}
theorem pt_isN1 {post : Int32 → Prop} {N a : Nat} (hN : N ≤ 20) (h : a < N) (hp : post 1) : wpX_isNode post (nI N, f1, f2, f3, f4, f5, f6, a1, a2, a3, a4, a5, a6, a7, a8, a9, a10, a11, a12, a13, a14, a15, a16) (nI a) :=
  br_f (nI_pos (by omega)) (br_f (nI_ge h (by omega)) hp)
theorem pt_isN0 {post : Int32 → Prop} {N a : Nat} (h : N ≤ a) (ha : a < 2 ^ 31) (hp : post 0) : wpX_isNode post (nI N, f1, f2, f3, f4, f5, f6, a1, a2, a3, a4, a5, a6, a7, a8, a9, a10, a11, a12, a13, a14, a15, a16) (nI a) :=
  br_f (nI_pos (by omega)) (br_t (nI_le h (by omega)) hp)
theorem pt_cls_l {post : Int32 → Prop} {N : Nat} {ld : Nat → Nat} (hN : N ≤ 20) (hL : pt_lead N ld) (hg : ∀ i, i < N → a4 i = nI (ld i)) (hp : post (pt_vC N ld)) : ∀ (d i : Nat), i + d = N → ∃ n, wX_classes_4 post (nI N) f1 f2 f3 f4 f5 f6 a1 a2 a3 a4 a5 a6 a7 a8 a9 a10 a11 a12 a13 a14 a15 a16 n (nI (pt_cnt (fun i => ld i == i) i)) (nI i) := by
  intro d
  induction d with
  | zero =>
    intro i hi
    have e : i = N := by omega
    subst e
    exact ⟨0 + 1, pk_le i i (fun _ => hp) (fun z => absurd z (by omega))⟩
  | succ d ih =>
    intro i hi
    obtain ⟨n, hn⟩ := ih (i + 1) (by omega)
    have hi' : i < N := by omega
    have hl := (hL i hi').1
    have E4 : a4 (nI i).toNatClampNeg = nI (ld i) := by rw [nI_clamp (by omega)]; exact hg i hi'
    have ec : pt_cnt (fun i => ld i == i) (i + 1) = pt_cnt (fun i => ld i == i) i + (if ld i == i then 1 else 0) := rfl
    refine ⟨n + 1, pk_le N i (fun z => absurd z (by omega)) (fun _ => ⟨pk_in i 20 (by omega), pk_eq (ld i) i (fun z => ?_) (fun z => ?_) E4⟩)⟩
    · rw [ec, if_pos (by rw [z]; exact beq_self_eq_true i)] at hn
      exact nm_r (nI_1 _) (nm_r (nI_1 i) hn)
    · rw [ec, if_neg (by simpa using z)] at hn
      exact nm_r (nI_1 i) hn
end
section
variable {N : Nat} {sy lf rt ld : Nat → Nat} {T : List Nat} {u : St1}
theorem pt_w_classes (h : pt_I N sy lf rt ld T u) {post : Int32 → Prop} (hp : post (pt_vC N ld)) : wpX_classes post u := by
  obtain ⟨c0, c1, c2, c3, c4, c5, c6, c7, c8, c9, c10, c11, c12, c13, c14, c15, c16, c17, c18, c19, c20, c21, c22⟩ := u
  obtain ⟨hG, e0, hg, _⟩ := h
  subst e0
  exact pt_cls_l hG.1.1 hG.2.1 (fun i hi => (hg i hi).2.2.2) hp N 0 (by omega)
theorem pt_w_leader (h : pt_I N sy lf rt ld T u) {a : Nat} (ha : a < N) {post : Int32 → Prop} (hp : post (nI (ld a))) : wpX_leader post u (nI a) := by
  obtain ⟨c0, c1, c2, c3, c4, c5, c6, c7, c8, c9, c10, c11, c12, c13, c14, c15, c16, c17, c18, c19, c20, c21, c22⟩ := u
  obtain ⟨hG, e0, hg, _⟩ := h
  subst e0
  have hN := hG.1.1
  unfold wpX_leader
  refine pt_isN1 hN ha ?_
  refine br_f (by decide) ⟨pk_in a 20 (by omega), ?_⟩
  rw [nI_clamp (show a < 2 ^ 31 by omega), (hg a ha).2.2.2]
  exact hp
theorem pt_w_compile (h : pt_I N sy lf rt ld T u) : ∃ u' : St1, pt_I N sy lf rt ld T u' ∧ pt_K T u' ∧ ∀ post : St1 → Prop, post u' → wpX_compile post u := by
  obtain ⟨f0, f1, f2, f3, f4, f5, f6, a1, a2, a3, a4, a5, a6, a7, a8, a9, a10, a11, a12, a13, a14, a15, a16⟩ := u
  obtain ⟨hG, e0, hg, e2, hlen, htok, htk, hcc⟩ := h
  subst e2
  obtain ⟨g3, g4, g5, g6, b8, b9, b10, b11, b12, h3, hC, hw⟩ := pt_compile (f0 := f0) (f1 := f1) (f3 := f3) (f4 := f4) (f5 := f5) (f6 := f6) (a1 := a1) (a2 := a2) (a3 := a3) (a4 := a4) (a5 := a5) (a6 := a6) (a7 := a7) (a8 := a8) (a9 := a9) (a10 := a10) (a11 := a11) (a12 := a12) (a13 := a13) (a14 := a14) (a15 := a15) (a16 := a16) htok hlen htk hcc
  exact ⟨(f0, f1, nI T.length, g3, g4, g5, g6, a1, a2, a3, a4, a5, a6, a7, b8, b9, b10, b11, b12, a13, a14, a15, a16), ⟨hG, e0, hg, rfl, hlen, htok, htk, fun _ => hC⟩, hC, hw⟩
theorem pt_w_runAll (h : pt_I N sy lf rt ld T u) (hK : pt_K T u) (hwh : pt_wh T 1 = true) : ∃ u' : St1, pt_I N sy lf rt ld T u' ∧ pt_F (pt_bA N sy lf rt ld T N) u' ∧ ∀ post : St1 → Prop, post u' → wpX_runAll post u := by
  obtain ⟨f0, f1, f2, f3, f4, f5, f6, a1, a2, a3, a4, a5, a6, a7, a8, a9, a10, a11, a12, a13, a14, a15, a16⟩ := u
  obtain ⟨hG, e0, hg, e2, hlen, htok, htk, hcc⟩ := h
  subst e0
  obtain ⟨b13, b14, b15, b16, hb, hw⟩ := pt_runAll (f1 := f1) (f2 := f2) (f3 := f3) (f4 := f4) (f5 := f5) (f6 := f6) (a1 := a1) (a2 := a2) (a3 := a3) (a4 := a4) (a5 := a5) (a6 := a6) (a7 := a7) (a8 := a8) (a9 := a9) (a10 := a10) (a11 := a11) (a12 := a12) (a13 := a13) (a14 := a14) (a15 := a15) (a16 := a16) hG.1 hG.2.1 hg htok hlen (hK.2 hwh).1
  exact ⟨(nI N, f1, f2, f3, f4, f5, f6, a1, a2, a3, a4, a5, a6, a7, a8, a9, a10, a11, a12, b13, b14, b15, b16), ⟨hG, rfl, hg, e2, hlen, htok, htk, hcc⟩, hb, hw⟩
theorem pt_w_fc {b : Nat → Bool} (hF : pt_F b u) {post : Int32 → Prop} (hp : post (nI (pt_cnt b 8000))) : wpX_foundCount post u := by
  obtain ⟨c0, c1, c2, c3, c4, c5, c6, c7, c8, c9, c10, c11, c12, c13, c14, c15, c16, c17, c18, c19, c20, c21, c22⟩ := u
  refine pt_fc ?_
  rw [pt_cnt_congr hF]
  exact hp
def pt_f4 (u : St1) : Int32 := match u with | (f0, f1, f2, f3, f4, f5, f6, a1, a2, a3, a4, a5, a6, a7, a8, a9, a10, a11, a12, a13, a14, a15, a16) => f4
theorem pt_K1 (hK : pt_K T u) (hwh : pt_wh T 1 = true) : ¬ pt_f4 u = 0 := by
  obtain ⟨c0, c1, c2, c3, c4, c5, c6, c7, c8, c9, c10, c11, c12, c13, c14, c15, c16, c17, c18, c19, c20, c21, c22⟩ := u
  have h := hK.1
  rw [if_pos hwh] at h
  show ¬ c4 = 0
  rw [h]
  decide
theorem pt_K0 (hK : pt_K T u) (hwh : ¬ pt_wh T 1 = true) : pt_f4 u = 0 := by
  obtain ⟨c0, c1, c2, c3, c4, c5, c6, c7, c8, c9, c10, c11, c12, c13, c14, c15, c16, c17, c18, c19, c20, c21, c22⟩ := u
  have h := hK.1
  rw [if_neg hwh] at h
  exact h
theorem pt_w_matches (h : pt_I N sy lf rt ld T u) : ∃ u' : St1, pt_I N sy lf rt ld T u' ∧ ∀ post : Int32 → St1 → Prop, post (pt_vM N sy lf rt ld T) u' → wpX_matches post u := by
  obtain ⟨u1, h1, k1, w1⟩ := pt_w_compile h
  unfold pt_vM
  by_cases hwh : pt_wh T 1 = true
  · rw [if_pos hwh]
    obtain ⟨u2, h2, F2, w2⟩ := pt_w_runAll h1 k1 hwh
    have kk := pt_K1 k1 hwh
    refine ⟨u2, h2, fun post hp => ?_⟩
    obtain ⟨c0, c1, c2, c3, c4, c5, c6, c7, c8, c9, c10, c11, c12, c13, c14, c15, c16, c17, c18, c19, c20, c21, c22⟩ := u
    obtain ⟨d0, d1, d2, d3, d4, d5, d6, d7, d8, d9, d10, d11, d12, d13, d14, d15, d16, d17, d18, d19, d20, d21, d22⟩ := u1
    obtain ⟨e0, e1, e2, e3, e4, e5, e6, e7, e8, e9, e10, e11, e12, e13, e14, e15, e16, e17, e18, e19, e20, e21, e22⟩ := u2
    exact w1 _ (br_f kk (w2 _ (pt_w_fc F2 hp)))
  · rw [if_neg hwh]
    have kk := pt_K0 k1 hwh
    refine ⟨u1, h1, fun post hp => ?_⟩
    obtain ⟨c0, c1, c2, c3, c4, c5, c6, c7, c8, c9, c10, c11, c12, c13, c14, c15, c16, c17, c18, c19, c20, c21, c22⟩ := u
    obtain ⟨d0, d1, d2, d3, d4, d5, d6, d7, d8, d9, d10, d11, d12, d13, d14, d15, d16, d17, d18, d19, d20, d21, d22⟩ := u1
    exact w1 _ (br_t kk hp)
theorem pt_w_clrun (h : pt_I N sy lf rt ld T u) (hK : pt_K T u) (hwh : pt_wh T 1 = true) {a : Nat} (ha : a < N) : ∃ u' : St1, pt_I N sy lf rt ld T u' ∧ pt_F (pt_bC N sy lf rt ld T (ld a)) u' ∧ ∀ post : St1 → Prop, post u' → wpX_clearFound (fun u => match u with | (f0, f1, f2, f3, f4, f5, f6, a1, a2, a3, a4, a5, a6, a7, a8, a9, a10, a11, a12, a13, a14, a15, a16) => vp_in (nI a) 20 ∧ wpX_run post (f0, f1, f2, f3, f4, f5, f6, a1, a2, a3, a4, a5, a6, a7, a8, a9, a10, a11, a12, a13, a14, a15, a16) (a4 (nI a).toNatClampNeg)) u := by
  obtain ⟨f0, f1, f2, f3, f4, f5, f6, a1, a2, a3, a4, a5, a6, a7, a8, a9, a10, a11, a12, a13, a14, a15, a16⟩ := u
  obtain ⟨hG, e0, hg, e2, hlen, htok, htk, hcc⟩ := h
  subst e0
  have hN := hG.1.1
  have hl := (hG.2.1 a ha).1
  obtain ⟨c16, hc, hw⟩ := pt_clear (f0 := nI N) (f1 := f1) (f2 := f2) (f3 := f3) (f4 := f4) (f5 := f5) (f6 := f6) (a1 := a1) (a2 := a2) (a3 := a3) (a4 := a4) (a5 := a5) (a6 := a6) (a7 := a7) (a8 := a8) (a9 := a9) (a10 := a10) (a11 := a11) (a12 := a12) (a13 := a13) (a14 := a14) (a15 := a15) (a16 := a16)
  obtain ⟨b13, b14, b15, b16, hb, hr⟩ := pt_run (c := ld a) (f1 := f1) (f2 := f2) (f3 := f3) (f4 := f4) (f5 := f5) (f6 := f6) (a1 := a1) (a2 := a2) (a3 := a3) (a4 := a4) (a5 := a5) (a6 := a6) (a7 := a7) (a8 := a8) (a9 := a9) (a10 := a10) (a11 := a11) (a12 := a12) (a13 := a13) (a14 := a14) (a15 := a15) (a16 := c16) hG.1 hG.2.1 hg htok hlen (hK.2 hwh).1 (by omega)
  refine ⟨(nI N, f1, f2, f3, f4, f5, f6, a1, a2, a3, a4, a5, a6, a7, a8, a9, a10, a11, a12, b13, b14, b15, b16), ⟨hG, rfl, hg, e2, hlen, htok, htk, hcc⟩, fun x hx => ?_, fun post hp => hw _ ⟨pk_in a 20 (by omega), ?_⟩⟩
  · rw [hb x hx, pt_bit0 hc hx, Bool.false_or]; rfl
  · rw [nI_clamp (show a < 2 ^ 31 by omega), (hg a ha).2.2.2]
    exact hr post hp
theorem pt_w_isN1 (h : pt_I N sy lf rt ld T u) {a : Nat} (ha : a < N) {post : Int32 → Prop} (hp : post 1) : wpX_isNode post u (nI a) := by
  obtain ⟨c0, c1, c2, c3, c4, c5, c6, c7, c8, c9, c10, c11, c12, c13, c14, c15, c16, c17, c18, c19, c20, c21, c22⟩ := u
  obtain ⟨hG, e0, _⟩ := h
  subst e0
  exact pt_isN1 hG.1.1 ha hp
theorem pt_w_matchesAt (h : pt_I N sy lf rt ld T u) {a : Nat} (ha : a < N) : ∃ u' : St1, pt_I N sy lf rt ld T u' ∧ ∀ post : Int32 → St1 → Prop, post (pt_vA N sy lf rt ld T (ld a)) u' → wpX_matchesAt post u (nI a) := by
  obtain ⟨u1, h1, k1, w1⟩ := pt_w_compile h
  unfold pt_vA
  by_cases hwh : pt_wh T 1 = true
  · rw [if_pos hwh]
    obtain ⟨u2, h2, F2, w2⟩ := pt_w_clrun h1 k1 hwh ha
    have kk := pt_K1 k1 hwh
    refine ⟨u2, h2, fun post hp => ?_⟩
    obtain ⟨c0, c1, c2, c3, c4, c5, c6, c7, c8, c9, c10, c11, c12, c13, c14, c15, c16, c17, c18, c19, c20, c21, c22⟩ := u
    obtain ⟨d0, d1, d2, d3, d4, d5, d6, d7, d8, d9, d10, d11, d12, d13, d14, d15, d16, d17, d18, d19, d20, d21, d22⟩ := u1
    obtain ⟨e0, e1, e2, e3, e4, e5, e6, e7, e8, e9, e10, e11, e12, e13, e14, e15, e16, e17, e18, e19, e20, e21, e22⟩ := u2
    unfold wpX_matchesAt
    refine pt_w_isN1 h ha ?_
    exact br_f (by decide) (w1 _ (br_f kk (w2 _ (pt_w_fc F2 hp))))
  · rw [if_neg hwh]
    have kk := pt_K0 k1 hwh
    refine ⟨u1, h1, fun post hp => ?_⟩
    obtain ⟨c0, c1, c2, c3, c4, c5, c6, c7, c8, c9, c10, c11, c12, c13, c14, c15, c16, c17, c18, c19, c20, c21, c22⟩ := u
    obtain ⟨d0, d1, d2, d3, d4, d5, d6, d7, d8, d9, d10, d11, d12, d13, d14, d15, d16, d17, d18, d19, d20, d21, d22⟩ := u1
    unfold wpX_matchesAt
    refine pt_w_isN1 h ha ?_
    exact br_f (by decide) (w1 _ (br_t kk hp))
theorem pt_bd_l {post : Int32 → St1 → Prop} {v : Int32} (f0 f1 f2 f3 f4 f5 f6 : Int32) (a1 a2 a3 a4 a5 a6 a7 a8 a9 a10 a11 a12 a13 a14 a15 : Nat → Int32) (a16 : Nat → Int64) : ∀ (d x : Nat) (k : Int32), x + d = 8000 → post (pt_bd (pt_bit a16) v d x k) (f0, f1, f2, f3, f4, f5, f6, a1, a2, a3, a4, a5, a6, a7, a8, a9, a10, a11, a12, a13, a14, a15, a16) → ∃ n, wX_binding_49 post v f0 f1 f2 f3 f4 f5 f6 a1 a2 a3 a4 a5 a6 a7 a8 a9 a10 a11 a12 a13 a14 a15 a16 n k (nI x) := by
  intro d
  induction d with
  | zero =>
    intro x k hx hp
    exact ⟨0 + 1, pk_le 8000 x (fun _ => hp) (fun z => absurd z (by omega))⟩
  | succ d ih =>
    intro x k hx hp
    have hx' : x < 8000 := by omega
    unfold pt_bd at hp
    have hin : vp_in (nI x >>> ((6 : Int32) &&& 31)) 125 := by rw [pt_ix hx']; exact pk_in (x / 64) 125 (by omega)
    by_cases hb : pt_bit a16 x = true
    · rw [if_pos hb] at hp
      have hne : ¬ ((((a16 (nI x >>> ((6 : Int32) &&& 31)).toNatClampNeg).toUInt64 >>> ((nI x &&& 63).toInt64.toUInt64 &&& Int64.toUInt64 63)).toInt64) &&& 1) = 0 := by
        rw [pt_read a16 hx', if_pos hb]; decide
      by_cases hk : k = 0
      · rw [if_pos hk] at hp
        refine ⟨0 + 1, pk_le 8000 x (fun z => absurd z (by omega)) (fun _ => ⟨hin, br_f hne (br_t hk ?_)⟩)⟩
        by_cases h0 : v = 0
        · rw [if_pos h0] at hp
          exact br_t h0 ⟨by decide, hp⟩
        · rw [if_neg h0] at hp
          by_cases h1 : v = 1
          · rw [if_pos h1] at hp
            exact br_f h0 (br_t h1 ⟨by decide, by decide, hp⟩)
          · rw [if_neg h1] at hp
            exact br_f h0 (br_f h1 ⟨by decide, hp⟩)
      · rw [if_neg hk] at hp
        obtain ⟨n, hn⟩ := ih (x + 1) (k + (-1)) (by omega) hp
        exact ⟨n + 1, pk_le 8000 x (fun z => absurd z (by omega)) (fun _ => ⟨hin, br_f hne (br_f hk (nm_e (nm_r (nI_1 x) hn)))⟩)⟩
    · rw [if_neg hb] at hp
      obtain ⟨n, hn⟩ := ih (x + 1) k (by omega) hp
      refine ⟨n + 1, pk_le 8000 x (fun z => absurd z (by omega)) (fun _ => ⟨hin, br_t ?_ (nm_r (nI_1 x) hn)⟩)⟩
      rw [pt_read a16 hx', if_neg hb]
theorem pt_w_binding (h : pt_I N sy lf rt ld T u) (k v : Int32) (h0 : ¬ v < 0) (h2 : v ≤ 2) : ∃ u' : St1, pt_I N sy lf rt ld T u' ∧ ∀ post : Int32 → St1 → Prop, post (pt_vB N sy lf rt ld T k v) u' → wpX_binding post u k v := by
  obtain ⟨u1, h1, k1, w1⟩ := pt_w_compile h
  unfold pt_vB
  by_cases hwh : pt_wh T 1 = true
  · rw [if_pos hwh]
    have kk := pt_K1 k1 hwh
    by_cases hk : k < 0
    · rw [if_pos hk]
      refine ⟨u1, h1, fun post hp => ?_⟩
      obtain ⟨c0, c1, c2, c3, c4, c5, c6, c7, c8, c9, c10, c11, c12, c13, c14, c15, c16, c17, c18, c19, c20, c21, c22⟩ := u
      obtain ⟨d0, d1, d2, d3, d4, d5, d6, d7, d8, d9, d10, d11, d12, d13, d14, d15, d16, d17, d18, d19, d20, d21, d22⟩ := u1
      exact br_f h0 (br_t h2 (w1 _ (br_f kk (br_t hk hp))))
    · rw [if_neg hk]
      by_cases hv : ((nI (pt_vs T 0) >>> (v &&& 31)) &&& 1) = 0
      · rw [if_pos hv]
        refine ⟨u1, h1, fun post hp => ?_⟩
        obtain ⟨c0, c1, c2, c3, c4, c5, c6, c7, c8, c9, c10, c11, c12, c13, c14, c15, c16, c17, c18, c19, c20, c21, c22⟩ := u
        obtain ⟨d0, d1, d2, d3, d4, d5, d6, d7, d8, d9, d10, d11, d12, d13, d14, d15, d16, d17, d18, d19, d20, d21, d22⟩ := u1
        have e5 := (k1.2 hwh).2
        subst e5
        exact br_f h0 (br_t h2 (w1 _ (br_f kk (br_f hk (br_t hv hp)))))
      · rw [if_neg hv]
        obtain ⟨u2, hI2, F2, w2⟩ := pt_w_runAll h1 k1 hwh
        refine ⟨u2, hI2, fun post hp => ?_⟩
        obtain ⟨c0, c1, c2, c3, c4, c5, c6, c7, c8, c9, c10, c11, c12, c13, c14, c15, c16, c17, c18, c19, c20, c21, c22⟩ := u
        obtain ⟨d0, d1, d2, d3, d4, d5, d6, d7, d8, d9, d10, d11, d12, d13, d14, d15, d16, d17, d18, d19, d20, d21, d22⟩ := u1
        obtain ⟨e0, e1, e2, e3, e4, e5, e6, e7, e8, e9, e10, e11, e12, e13, e14, e15, e16, e17, e18, e19, e20, e21, e22⟩ := u2
        have e5 := (k1.2 hwh).2
        subst e5
        refine br_f h0 (br_t h2 (w1 _ (br_f kk (br_f hk (br_f hv (w2 _ (pt_bd_l e0 e1 e2 e3 e4 e5 e6 e7 e8 e9 e10 e11 e12 e13 e14 e15 e16 e17 e18 e19 e20 e21 e22 8000 0 k (by omega) ?_)))))))
        rw [pt_bd_c 8000 0 k (fun y hy => F2 y (by omega))]
        exact hp
  · rw [if_neg hwh]
    have kk := pt_K0 k1 hwh
    refine ⟨u1, h1, fun post hp => ?_⟩
    obtain ⟨c0, c1, c2, c3, c4, c5, c6, c7, c8, c9, c10, c11, c12, c13, c14, c15, c16, c17, c18, c19, c20, c21, c22⟩ := u
    obtain ⟨d0, d1, d2, d3, d4, d5, d6, d7, d8, d9, d10, d11, d12, d13, d14, d15, d16, d17, d18, d19, d20, d21, d22⟩ := u1
    exact br_f h0 (br_t h2 (w1 _ (br_t kk hp)))
end
end
section
/-! ===== the law's own methods: summed answers 1, sum is a function of graph and tokens ===== -/
theorem pt_n3 {n : Nat} (h : n < 2 ^ 31) : ¬ nI n = -3 := by
  intro e
  have t := nI_toInt h
  rw [e] at t
  have t' : (-3 : Int32).toInt = -3 := by decide
  omega
section
variable {N : Nat} {sy lf rt ld : Nat → Nat} {T : List Nat} {u : St1}
theorem pt_dis (hG : pt_G N sy lf rt ld) {a b x : Nat} (ha : a < 20) (hb : b < 20) (h1 : pt_sem N sy lf rt ld T [a] (fun _ => 0) x) (h2 : pt_sem N sy lf rt ld T [b] (fun _ => 0) x) : a = b := by
  have r := (pt_inj hG T [a] [b] _ _ x h1 h2 (fun _ _ => Iff.rfl) (fun _ _ => ⟨Nat.zero_le _, Nat.zero_le _⟩) (fun c hc => by simp at hc; omega) (fun c hc => by simp at hc; omega)).1
  simpa using r
theorem pt_bA_s (hG : pt_G N sy lf rt ld) {i : Nat} (hi : i < N) (h : ld i = i) : pt_cnt (pt_bA N sy lf rt ld T (i + 1)) 8000 = pt_cnt (pt_bA N sy lf rt ld T i) 8000 + pt_cnt (pt_bC N sy lf rt ld T i) 8000 := by
  have hN := hG.1.1
  apply pt_cnt_or
  · intro x _
    unfold pt_bA pt_bC
    rw [← pt_dec_or]
    apply pt_dec_c
    unfold pt_all
    constructor
    · rintro ⟨m, z1, z2, z3⟩
      by_cases e : m = i
      · subst e; exact Or.inr z3
      · exact Or.inl ⟨m, by omega, z2, z3⟩
    · rintro (⟨m, z1, z2, z3⟩ | z)
      · exact ⟨m, by omega, z2, z3⟩
      · exact ⟨i, by omega, h, z⟩
  · intro x _ h1 h2
    unfold pt_bA at h1
    unfold pt_bC at h2
    rw [pt_dec_t] at h1 h2
    obtain ⟨m, z1, z2, z3⟩ := h1
    have := pt_dis hG (by omega) (by omega) z3 h2
    omega
theorem pt_bA_n {i : Nat} (h : ¬ ld i = i) : pt_cnt (pt_bA N sy lf rt ld T (i + 1)) 8000 = pt_cnt (pt_bA N sy lf rt ld T i) 8000 := by
  apply pt_cnt_congr
  intro x _
  unfold pt_bA
  apply pt_dec_c
  unfold pt_all
  constructor
  · rintro ⟨m, z1, z2, z3⟩
    by_cases e : m = i
    · subst e; exact absurd z2 h
    · exact ⟨m, by omega, z2, z3⟩
  · rintro ⟨m, z1, z2, z3⟩
    exact ⟨m, by omega, z2, z3⟩
theorem pt_bA_0 : pt_cnt (pt_bA N sy lf rt ld T 0) 8000 = 0 := by
  have e : pt_cnt (pt_bA N sy lf rt ld T 0) 8000 = pt_cnt (fun _ => false) 8000 := by
    apply pt_cnt_congr
    intro x _
    unfold pt_bA
    rw [pt_dec_f]
    rintro ⟨m, z, _⟩
    omega
  rw [e]
  have : ∀ n, pt_cnt (fun _ => false) n = 0 := by
    intro n
    induction n with
    | zero => rfl
    | succ n ih => unfold pt_cnt; rw [ih]; rfl
  exact this 8000
theorem pt_smd_l (hwh : pt_wh T 1 = true) : ∀ (d i : Nat) (f0 f1 f2 f3 f4 f5 f6 : Int32) (a1 a2 a3 a4 a5 a6 a7 a8 a9 a10 a11 a12 a13 a14 a15 : Nat → Int32) (a16 : Nat → Int64), i + d = N → pt_I N sy lf rt ld T (f0, f1, f2, f3, f4, f5, f6, a1, a2, a3, a4, a5, a6, a7, a8, a9, a10, a11, a12, a13, a14, a15, a16) → ∃ u' : St1, pt_I N sy lf rt ld T u' ∧ ∀ post : Int32 → St1 → Prop, post 1 u' → ∃ n, wL_summed_36 post (nI N) (pt_vM N sy lf rt ld T) n (nI (pt_cnt (pt_bA N sy lf rt ld T i) 8000)) (nI i) f0 f1 f2 f3 f4 f5 f6 a1 a2 a3 a4 a5 a6 a7 a8 a9 a10 a11 a12 a13 a14 a15 a16 := by
  intro d
  induction d with
  | zero =>
    intro i f0 f1 f2 f3 f4 f5 f6 f7 f8 f9 f10 f11 f12 f13 f14 f15 f16 f17 f18 f19 f20 f21 f22 hi h
    refine ⟨_, h, fun post hp => ⟨0 + 1, ?_⟩⟩
    have hN := h.1.1.1
    have e : i = N := by omega
    subst e
    refine pk_le i i (fun _ => br_t ?_ hp) (fun z => absurd z (by omega))
    unfold pt_vM
    rw [if_pos hwh]
  | succ d ih =>
    intro i f0 f1 f2 f3 f4 f5 f6 f7 f8 f9 f10 f11 f12 f13 f14 f15 f16 f17 f18 f19 f20 f21 f22 hi h
    have hG := h.1
    have hN := hG.1.1
    have hi' : i < N := by omega
    have hl := hG.2.1 i hi'
    obtain ⟨u1, h1, w1⟩ := pt_w_matchesAt h hi'
    have ev : ∀ c, pt_vA N sy lf rt ld T c = nI (pt_cnt (pt_bC N sy lf rt ld T c) 8000) := by
      intro c
      unfold pt_vA
      rw [if_pos hwh]
    by_cases hli : ld i = i
    · obtain ⟨c0, c1, c2, c3, c4, c5, c6, c7, c8, c9, c10, c11, c12, c13, c14, c15, c16, c17, c18, c19, c20, c21, c22⟩ := u1
      obtain ⟨u', hI', w'⟩ := ih (i + 1) c0 c1 c2 c3 c4 c5 c6 c7 c8 c9 c10 c11 c12 c13 c14 c15 c16 c17 c18 c19 c20 c21 c22 (by omega) h1
      refine ⟨u', hI', fun post hp => ?_⟩
      obtain ⟨n, hn⟩ := w' post hp
      refine ⟨n + 1, pk_le N i (fun z => absurd z (by omega)) (fun _ => w1 _ (pt_w_leader h1 hi' ?_))⟩
      refine pk_eq (ld i) i (fun _ => nm_r (e' := nI (pt_cnt (pt_bA N sy lf rt ld T (i + 1)) 8000)) ?_ (nm_r (nI_1 i) hn)) (fun z => absurd hli z)
      rw [ev, hli, nI_add, pt_bA_s hG hi' hli]
    · obtain ⟨u2, h2, w2⟩ := pt_w_matchesAt h1 hl.1
      obtain ⟨c0, c1, c2, c3, c4, c5, c6, c7, c8, c9, c10, c11, c12, c13, c14, c15, c16, c17, c18, c19, c20, c21, c22⟩ := u1
      obtain ⟨e0, e1, e2, e3, e4, e5, e6, e7, e8, e9, e10, e11, e12, e13, e14, e15, e16, e17, e18, e19, e20, e21, e22⟩ := u2
      obtain ⟨u', hI', w'⟩ := ih (i + 1) e0 e1 e2 e3 e4 e5 e6 e7 e8 e9 e10 e11 e12 e13 e14 e15 e16 e17 e18 e19 e20 e21 e22 (by omega) h2
      refine ⟨u', hI', fun post hp => ?_⟩
      obtain ⟨n, hn⟩ := w' post hp
      rw [pt_bA_n hli] at hn
      refine ⟨n + 1, pk_le N i (fun z => absurd z (by omega)) (fun _ => w1 _ (pt_w_leader h1 hi' ?_))⟩
      refine pk_eq (ld i) i (fun z => absurd z hli) (fun _ => w2 _ ?_)
      exact br_t (by rw [hl.2]) (nm_r (nI_1 i) hn)
theorem pt_w_summed (h : pt_I N sy lf rt ld T u) : ∃ u' : St1, pt_I N sy lf rt ld T u' ∧ ∀ post : Int32 → St1 → Prop, post 1 u' → wpL_summed post u (nI N) := by
  obtain ⟨u1, h1, w1⟩ := pt_w_matches h
  have hN : N ≤ 20 := by
    obtain ⟨c0, c1, c2, c3, c4, c5, c6, c7, c8, c9, c10, c11, c12, c13, c14, c15, c16, c17, c18, c19, c20, c21, c22⟩ := u
    exact h.1.1.1
  by_cases hwh : pt_wh T 1 = true
  · have ev : pt_vM N sy lf rt ld T = nI (pt_cnt (pt_bA N sy lf rt ld T N) 8000) := by unfold pt_vM; rw [if_pos hwh]
    obtain ⟨c0, c1, c2, c3, c4, c5, c6, c7, c8, c9, c10, c11, c12, c13, c14, c15, c16, c17, c18, c19, c20, c21, c22⟩ := u1
    obtain ⟨u', hI', w'⟩ := pt_smd_l hwh N 0 c0 c1 c2 c3 c4 c5 c6 c7 c8 c9 c10 c11 c12 c13 c14 c15 c16 c17 c18 c19 c20 c21 c22 (by omega) h1
    refine ⟨u', hI', fun post hp => ?_⟩
    obtain ⟨n, hn⟩ := w' post hp
    rw [pt_bA_0] at hn
    obtain ⟨e0, e1, e2, e3, e4, e5, e6, e7, e8, e9, e10, e11, e12, e13, e14, e15, e16, e17, e18, e19, e20, e21, e22⟩ := u
    unfold wpL_summed
    refine w1 _ ?_
    refine br_f ?_ ⟨n, hn⟩
    rw [ev]
    have := pt_cnt_le (pt_bA N sy lf rt ld T N) 8000
    exact pt_n3 (by omega)
  · have ev : pt_vM N sy lf rt ld T = -3 := by unfold pt_vM; rw [if_neg hwh]
    by_cases h0 : N = 0
    · refine ⟨u1, h1, fun post hp => ?_⟩
      obtain ⟨c0, c1, c2, c3, c4, c5, c6, c7, c8, c9, c10, c11, c12, c13, c14, c15, c16, c17, c18, c19, c20, c21, c22⟩ := u1
      obtain ⟨e0, e1, e2, e3, e4, e5, e6, e7, e8, e9, e10, e11, e12, e13, e14, e15, e16, e17, e18, e19, e20, e21, e22⟩ := u
      unfold wpL_summed
      refine w1 _ ?_
      exact br_t ev (br_t (by rw [h0]; rfl) hp)
    · obtain ⟨u2, h2, w2⟩ := pt_w_matchesAt h1 (a := 0) (by omega)
      refine ⟨u2, h2, fun post hp => ?_⟩
      have ev2 : pt_vA N sy lf rt ld T (ld 0) = -3 := by unfold pt_vA; rw [if_neg hwh]
      obtain ⟨d0, d1, d2, d3, d4, d5, d6, d7, d8, d9, d10, d11, d12, d13, d14, d15, d16, d17, d18, d19, d20, d21, d22⟩ := u2
      obtain ⟨c0, c1, c2, c3, c4, c5, c6, c7, c8, c9, c10, c11, c12, c13, c14, c15, c16, c17, c18, c19, c20, c21, c22⟩ := u1
      obtain ⟨e0, e1, e2, e3, e4, e5, e6, e7, e8, e9, e10, e11, e12, e13, e14, e15, e16, e17, e18, e19, e20, e21, e22⟩ := u
      unfold wpL_summed
      refine w1 _ ?_
      have hn0 : ¬ nI N = 0 := nI_ne0 (by omega) (by omega)
      exact br_t ev (br_f hn0 (w2 _ (br_t ev2 hp)))
theorem pt_s2_l : ∀ (d i : Nat) (x : Int32) (f0 f1 f2 f3 f4 f5 f6 : Int32) (a1 a2 a3 a4 a5 a6 a7 a8 a9 a10 a11 a12 a13 a14 a15 : Nat → Int32) (a16 : Nat → Int64), i + d = 8 → pt_I N sy lf rt ld T (f0, f1, f2, f3, f4, f5, f6, a1, a2, a3, a4, a5, a6, a7, a8, a9, a10, a11, a12, a13, a14, a15, a16) → ∃ u' : St1, pt_I N sy lf rt ld T u' ∧ ∀ post : Int32 → St1 → Prop, post (pt_it (pt_g2 N sy lf rt ld T) d i x) u' → ∃ n, wL_sum_48 post n x (nI i) f0 f1 f2 f3 f4 f5 f6 a1 a2 a3 a4 a5 a6 a7 a8 a9 a10 a11 a12 a13 a14 a15 a16 := by
  intro d
  induction d with
  | zero =>
    intro i x f0 f1 f2 f3 f4 f5 f6 f7 f8 f9 f10 f11 f12 f13 f14 f15 f16 f17 f18 f19 f20 f21 f22 hi h
    exact ⟨_, h, fun post hp => ⟨0 + 1, pk_le 8 i (fun _ => hp) (fun z => absurd z (by omega))⟩⟩
  | succ d ih =>
    intro i x f0 f1 f2 f3 f4 f5 f6 f7 f8 f9 f10 f11 f12 f13 f14 f15 f16 f17 f18 f19 f20 f21 f22 hi h
    obtain ⟨u1, h1, w1⟩ := pt_w_binding h (nI i) 0 (by decide) (by decide)
    obtain ⟨u2, h2, w2⟩ := pt_w_binding h1 (nI i) 1 (by decide) (by decide)
    obtain ⟨c0, c1, c2, c3, c4, c5, c6, c7, c8, c9, c10, c11, c12, c13, c14, c15, c16, c17, c18, c19, c20, c21, c22⟩ := u1
    obtain ⟨e0, e1, e2, e3, e4, e5, e6, e7, e8, e9, e10, e11, e12, e13, e14, e15, e16, e17, e18, e19, e20, e21, e22⟩ := u2
    obtain ⟨u', hI', w'⟩ := ih (i + 1) (pt_g2 N sy lf rt ld T i x) e0 e1 e2 e3 e4 e5 e6 e7 e8 e9 e10 e11 e12 e13 e14 e15 e16 e17 e18 e19 e20 e21 e22 (by omega) h2
    refine ⟨u', hI', fun post hp => ?_⟩
    obtain ⟨n, hn⟩ := w' post hp
    exact ⟨n + 1, pk_le 8 i (fun z => absurd z (by omega)) (fun _ => w1 _ (w2 _ (nm_e (nm_r (nI_1 i) hn))))⟩
theorem pt_s1_l : ∀ (d i : Nat) (x : Int32) (f0 f1 f2 f3 f4 f5 f6 : Int32) (a1 a2 a3 a4 a5 a6 a7 a8 a9 a10 a11 a12 a13 a14 a15 : Nat → Int32) (a16 : Nat → Int64), i + d = N → pt_I N sy lf rt ld T (f0, f1, f2, f3, f4, f5, f6, a1, a2, a3, a4, a5, a6, a7, a8, a9, a10, a11, a12, a13, a14, a15, a16) → ∃ u' : St1, pt_I N sy lf rt ld T u' ∧ ∀ post : Int32 → St1 → Prop, post (pt_it (pt_g2 N sy lf rt ld T) 8 0 (pt_it (pt_g1 N sy lf rt ld T) d i x)) u' → ∃ n, wL_sum_15 post (nI N) n x (nI i) f0 f1 f2 f3 f4 f5 f6 a1 a2 a3 a4 a5 a6 a7 a8 a9 a10 a11 a12 a13 a14 a15 a16 := by
  intro d
  induction d with
  | zero =>
    intro i x f0 f1 f2 f3 f4 f5 f6 f7 f8 f9 f10 f11 f12 f13 f14 f15 f16 f17 f18 f19 f20 f21 f22 hi h
    have hN := h.1.1.1
    obtain ⟨u', hI', w'⟩ := pt_s2_l 8 0 x f0 f1 f2 f3 f4 f5 f6 f7 f8 f9 f10 f11 f12 f13 f14 f15 f16 f17 f18 f19 f20 f21 f22 (by omega) h
    exact ⟨u', hI', fun post hp => ⟨0 + 1, pk_le N i (fun _ => w' post hp) (fun z => absurd z (by omega))⟩⟩
  | succ d ih =>
    intro i x f0 f1 f2 f3 f4 f5 f6 f7 f8 f9 f10 f11 f12 f13 f14 f15 f16 f17 f18 f19 f20 f21 f22 hi h
    have hN := h.1.1.1
    have hi' : i < N := by omega
    obtain ⟨u1, h1, w1⟩ := pt_w_matchesAt h hi'
    obtain ⟨c0, c1, c2, c3, c4, c5, c6, c7, c8, c9, c10, c11, c12, c13, c14, c15, c16, c17, c18, c19, c20, c21, c22⟩ := u1
    obtain ⟨u', hI', w'⟩ := ih (i + 1) (pt_g1 N sy lf rt ld T i x) c0 c1 c2 c3 c4 c5 c6 c7 c8 c9 c10 c11 c12 c13 c14 c15 c16 c17 c18 c19 c20 c21 c22 (by omega) h1
    refine ⟨u', hI', fun post hp => ?_⟩
    obtain ⟨n, hn⟩ := w' post hp
    exact ⟨n + 1, pk_le N i (fun z => absurd z (by omega)) (fun _ => pt_w_leader h hi' (w1 _ (nm_e (nm_r (nI_1 i) hn))))⟩
theorem pt_w_sum (h : pt_I N sy lf rt ld T u) : ∃ u' : St1, pt_I N sy lf rt ld T u' ∧ ∀ post : Int32 → St1 → Prop, post (pt_vS N sy lf rt ld T) u' → wpL_sum post u (nI N) := by
  obtain ⟨u1, h1, w1⟩ := pt_w_matches h
  obtain ⟨c0, c1, c2, c3, c4, c5, c6, c7, c8, c9, c10, c11, c12, c13, c14, c15, c16, c17, c18, c19, c20, c21, c22⟩ := u1
  obtain ⟨u', hI', w'⟩ := pt_s1_l N 0 ((31 * pt_vC N ld) + pt_vM N sy lf rt ld T) c0 c1 c2 c3 c4 c5 c6 c7 c8 c9 c10 c11 c12 c13 c14 c15 c16 c17 c18 c19 c20 c21 c22 (by omega) h1
  refine ⟨u', hI', fun post hp => ?_⟩
  obtain ⟨e0, e1, e2, e3, e4, e5, e6, e7, e8, e9, e10, e11, e12, e13, e14, e15, e16, e17, e18, e19, e20, e21, e22⟩ := u
  exact pt_w_classes h (w1 _ (nm_e (w' post hp)))
end
end
section
/-! ===== token, wipe, congruent, node ===== -/
theorem pt_tk_add {a7 : Nat → Int32} {t : Nat} : ∀ (T : List Nat) (k : Nat), pt_tk a7 k T → pt_tk (upd a7 (k + T.length) (nI t)) k (T ++ [t]) := by
  intro T
  induction T with
  | nil =>
    intro k _
    exact ⟨pk_us, trivial⟩
  | cons s T ih =>
    intro k h
    refine ⟨?_, ?_⟩
    · rw [pk_un (by simp)]; exact h.1
    · have r := ih (k + 1) h.2
      rw [show k + 1 + T.length = k + (s :: T).length by simp; omega] at r
      exact r
section
variable {f0 f1 f2 f3 f4 f5 f6 : Int32} {a1 a2 a3 a4 a5 a6 a7 a8 a9 a10 a11 a12 a13 a14 a15 : Nat → Int32} {a16 : Nat → Int64}
theorem pt_t45 {post : Int32 → St1 → Prop} {k t : Nat} (hk : k < 7) (ht : t < 128) (hp : post (nI (k + 1)) (f0, f1, nI (k + 1), 0, f4, f5, f6, a1, a2, a3, a4, a5, a6, upd a7 k (nI t), a8, a9, a10, a11, a12, a13, a14, a15, a16)) : wX_token_45 post (nI t) f0 f1 (nI k) f3 f4 f5 f6 a1 a2 a3 a4 a5 a6 a7 a8 a9 a10 a11 a12 a13 a14 a15 a16 :=
  br_f (by decide) ⟨pk_in k 7 hk, nm_r (e' := upd a7 k (nI t)) (by rw [nI_clamp (by omega), pt_b8 t ht]) (nm_r (nI_1 k) hp)⟩
theorem pt_t21 {post : Int32 → St1 → Prop} {k t : Nat} (hk : k < 7) (ht : pt_tok t) (h2 : 2 < t) (hp : post (nI (k + 1)) (f0, f1, nI (k + 1), 0, f4, f5, f6, a1, a2, a3, a4, a5, a6, upd a7 k (nI t), a8, a9, a10, a11, a12, a13, a14, a15, a16)) : wX_token_21 post (nI t) f0 f1 (nI k) f3 f4 f5 f6 a1 a2 a3 a4 a5 a6 a7 a8 a9 a10 a11 a12 a13 a14 a15 a16 := by
  have ht' : t < 22 := by unfold pt_tok at ht; omega
  have w : wX_token_45 post (nI t) f0 f1 (nI k) f3 f4 f5 f6 a1 a2 a3 a4 a5 a6 a7 a8 a9 a10 a11 a12 a13 a14 a15 a16 := pt_t45 hk (by omega) hp
  refine pk_lt t 10 (fun z => ?_) (fun z => pk_le t 15 (fun _ => w) (fun y => ?_))
  · unfold pt_tok at ht; omega
  · exact pk_eq t 20 (fun _ => w) (fun x => pk_eq t 21 (fun _ => w) (fun v => absurd ht (by unfold pt_tok; omega)))
theorem pt_tok_w {post : Int32 → St1 → Prop} {k t : Nat} (hk : k < 7) (ht : pt_tok t) (hp : post (nI (k + 1)) (f0, f1, nI (k + 1), 0, f4, f5, f6, a1, a2, a3, a4, a5, a6, upd a7 k (nI t), a8, a9, a10, a11, a12, a13, a14, a15, a16)) : wpX_token post (f0, f1, nI k, f3, f4, f5, f6, a1, a2, a3, a4, a5, a6, a7, a8, a9, a10, a11, a12, a13, a14, a15, a16) (nI t) := by
  have ht' : t < 22 := by unfold pt_tok at ht; omega
  exact br_t (nI_lt (b := 7) hk (by decide)) (br_f (nI_pos (by omega)) (pk_le t 2 (fun _ => pt_t45 hk (by omega) hp) (fun z => pt_t21 hk ht z hp)))
theorem pt_cong_w {post : Int32 → Prop} {N m n : Nat} {sy lf rt ld : Nat → Nat} (hS : pt_sh N sy lf rt) (hL : pt_lead N ld) (hg : pt_gm N sy lf rt ld a1 a2 a3 a4) (hm : m < N) (hn : n < N) (h1 : pt_cong sy lf rt ld m n → post 1) (h0 : ¬ pt_cong sy lf rt ld m n → post 0) : wpX_congruent post (f0, f1, f2, f3, f4, f5, f6, a1, a2, a3, a4, a5, a6, a7, a8, a9, a10, a11, a12, a13, a14, a15, a16) (nI m) (nI n) := by
  have hN := hS.1
  have sm := hS.2 m hm
  have sn := hS.2 n hn
  have gm := hg m hm
  have gn := hg n hn
  have cm : (nI m).toNatClampNeg = m := nI_clamp (by omega)
  have cn : (nI n).toNatClampNeg = n := nI_clamp (by omega)
  have E1m : a1 (nI m).toNatClampNeg = nI (sy m) := by rw [cm]; exact gm.1
  have E1n : a1 (nI n).toNatClampNeg = nI (sy n) := by rw [cn]; exact gn.1
  have E2m : a2 (nI m).toNatClampNeg = nI (lf m) := by rw [cm]; exact gm.2.1
  have E2n : a2 (nI n).toNatClampNeg = nI (lf n) := by rw [cn]; exact gn.2.1
  have E3m : a3 (nI m).toNatClampNeg = nI (rt m) := by rw [cm]; exact gm.2.2.1
  have E3n : a3 (nI n).toNatClampNeg = nI (rt n) := by rw [cn]; exact gn.2.2.1
  have e4 : ∀ j, j < N → a4 (nI j).toNatClampNeg = nI (ld j) := by
    intro j hj
    rw [nI_clamp (by omega)]; exact (hg j hj).2.2.2
  refine ⟨pk_in m 20 (by omega), pk_in n 20 (by omega), pk_eq (sy m) (sy n) (fun z1 => ⟨pk_in m 20 (by omega), pk_eq (sy m) 0 (fun z2 => h0 ?_) (fun z2 => ?_) E1m⟩) (fun z1 => h0 ?_) E1m E1n⟩
  · exact fun c => c.2.1 z2
  · have km := sm.2.2.2 z2
    have kn := sn.2.2.2 (by omega)
    have lm1 := (hL _ km.1).1
    have lm2 := (hL _ km.2).1
    have ln1 := (hL _ kn.1).1
    have ln2 := (hL _ kn.2).1
    have E4m : a4 (a2 (nI m).toNatClampNeg).toNatClampNeg = nI (ld (lf m)) := by rw [E2m]; exact e4 _ km.1
    have E4n : a4 (a2 (nI n).toNatClampNeg).toNatClampNeg = nI (ld (lf n)) := by rw [E2n]; exact e4 _ kn.1
    have F4m : a4 (a3 (nI m).toNatClampNeg).toNatClampNeg = nI (ld (rt m)) := by rw [E3m]; exact e4 _ km.2
    have F4n : a4 (a3 (nI n).toNatClampNeg).toNatClampNeg = nI (ld (rt n)) := by rw [E3n]; exact e4 _ kn.2
    refine ⟨pk_in m 20 (by omega), pk_in (lf m) 20 (by omega) E2m, pk_in n 20 (by omega), pk_in (lf n) 20 (by omega) E2n, pk_eq (ld (lf m)) (ld (lf n)) (fun z3 => ⟨pk_in m 20 (by omega), pk_eq (sy m) 20 (fun z4 => h1 ?_) (fun z4 => ?_) E1m⟩) (fun z3 => h0 ?_) E4m E4n⟩
    · exact ⟨z1, z2, z3, Or.inl z4⟩
    · refine ⟨pk_in m 20 (by omega), pk_in (rt m) 20 (by omega) E3m, pk_in n 20 (by omega), pk_in (rt n) 20 (by omega) E3n, pk_eq (ld (rt m)) (ld (rt n)) (fun z5 => h1 ?_) (fun z5 => h0 ?_) F4m F4n⟩
      · exact ⟨z1, z2, z3, Or.inr z5⟩
      · exact fun c => c.2.2.2.elim z4 z5
    · exact fun c => z3 c.2.2.1
  · exact fun c => z1 c.1
/-- node: the search for the same node -/
theorem pt_n3_l {N s a b : Nat} {sy lf rt ld : Nat → Nat} (hS : pt_sh N sy lf rt) (hg : pt_gm N sy lf rt ld a1 a2 a3 a4) (hs : s < 22) (ha : a < 20) (hb : b < 20) :
    ∀ (d i : Nat), i + d = N → (∃ m, m < N ∧ ∀ post : Int32 → St1 → Prop, post (nI m) (nI N, f1, f2, f3, f4, f5, f6, a1, a2, a3, a4, a5, a6, a7, a8, a9, a10, a11, a12, a13, a14, a15, a16) → ∃ n, wX_node_3 post (nI s) (nI a) (nI b) (nI N) f1 f2 f3 f4 f5 f6 a1 a2 a3 a4 a5 a6 a7 a8 a9 a10 a11 a12 a13 a14 a15 a16 n (nI i)) ∨ (∀ post : Int32 → St1 → Prop, wX_node_3 post (nI s) (nI a) (nI b) (nI N) f1 f2 f3 f4 f5 f6 a1 a2 a3 a4 a5 a6 a7 a8 a9 a10 a11 a12 a13 a14 a15 a16 (0 + 1) (nI N) → ∃ n, wX_node_3 post (nI s) (nI a) (nI b) (nI N) f1 f2 f3 f4 f5 f6 a1 a2 a3 a4 a5 a6 a7 a8 a9 a10 a11 a12 a13 a14 a15 a16 n (nI i)) := by
  have hN := hS.1
  intro d
  induction d with
  | zero =>
    intro i hi
    have e : i = N := by omega
    subst e
    exact Or.inr (fun post hp => ⟨0 + 1, hp⟩)
  | succ d ih =>
    intro i hi
    have hi' : i < N := by omega
    have si := hS.2 i hi'
    have gi := hg i hi'
    have ci : (nI i).toNatClampNeg = i := nI_clamp (by omega)
    have E1 : a1 (nI i).toNatClampNeg = nI (sy i) := by rw [ci]; exact gi.1
    have E2 : a2 (nI i).toNatClampNeg = nI (lf i) := by rw [ci]; exact gi.2.1
    have E3 : a3 (nI i).toNatClampNeg = nI (rt i) := by rw [ci]; exact gi.2.2.1
    by_cases h : sy i = s ∧ lf i = a ∧ rt i = b
    · refine Or.inl ⟨i, hi', fun post hp => ⟨0 + 1, pk_le N i (fun z => absurd z (by omega)) (fun _ => ⟨pk_in i 20 (by omega), br_t (by rw [E1, h.1]) ⟨pk_in i 20 (by omega), br_t (by rw [E2, h.2.1]) ⟨pk_in i 20 (by omega), br_t (by rw [E3, h.2.2]) hp⟩⟩⟩)⟩⟩
    · have st : ∀ (post : Int32 → St1 → Prop) (n : Nat), wX_node_3 post (nI s) (nI a) (nI b) (nI N) f1 f2 f3 f4 f5 f6 a1 a2 a3 a4 a5 a6 a7 a8 a9 a10 a11 a12 a13 a14 a15 a16 n (nI (i + 1)) → wX_node_3 post (nI s) (nI a) (nI b) (nI N) f1 f2 f3 f4 f5 f6 a1 a2 a3 a4 a5 a6 a7 a8 a9 a10 a11 a12 a13 a14 a15 a16 (n + 1) (nI i) := by
        intro post n hn
        refine pk_le N i (fun z => absurd z (by omega)) (fun _ => ⟨pk_in i 20 (by omega), ?_⟩)
        refine pk_eq (sy i) s (fun z1 => ⟨pk_in i 20 (by omega), ?_⟩) (fun _ => nm_r (nI_1 i) hn) E1
        refine pk_eq (lf i) a (fun z2 => ⟨pk_in i 20 (by omega), ?_⟩) (fun _ => nm_r (nI_1 i) hn) E2
        exact pk_eq (rt i) b (fun z3 => absurd ⟨z1, z2, z3⟩ h) (fun _ => nm_r (nI_1 i) hn) E3
      rcases ih (i + 1) (by omega) with ⟨m, hm, w⟩ | w
      · refine Or.inl ⟨m, hm, fun post hp => ?_⟩
        obtain ⟨n, hn⟩ := w post hp
        exact ⟨n + 1, st post n hn⟩
      · refine Or.inr (fun post hp => ?_)
        obtain ⟨n, hn⟩ := w post hp
        exact ⟨n + 1, st post n hn⟩
/-- node: the search for a congruent one -/
theorem pt_n122_l {N : Nat} {sy lf rt ld : Nat → Nat} (hS : pt_sh (N + 1) sy lf rt) (hL : pt_lead (N + 1) ld) (hg : pt_gm (N + 1) sy lf rt ld a1 a2 a3 a4) :
    ∀ (d i : Nat), i + d = N → (∃ m, m < N ∧ pt_cong sy lf rt ld m N ∧ ∀ post : Int32 → St1 → Prop, post (nI N) (f0, f1, f2, f3, f4, f5, f6, a1, a2, a3, upd a4 N (nI (ld m)), a5, a6, a7, a8, a9, a10, a11, a12, a13, a14, a15, a16) → ∃ n, wX_node_122 post (nI N) f0 f1 f2 f3 f4 f5 f6 a1 a2 a3 a4 a5 a6 a7 a8 a9 a10 a11 a12 a13 a14 a15 a16 n (nI i)) ∨ ((∀ m, i ≤ m → m < N → ¬ pt_cong sy lf rt ld m N) ∧ ∀ post : Int32 → St1 → Prop, post (nI N) (f0, f1, f2, f3, f4, f5, f6, a1, a2, a3, a4, a5, a6, a7, a8, a9, a10, a11, a12, a13, a14, a15, a16) → ∃ n, wX_node_122 post (nI N) f0 f1 f2 f3 f4 f5 f6 a1 a2 a3 a4 a5 a6 a7 a8 a9 a10 a11 a12 a13 a14 a15 a16 n (nI i)) := by
  have hN := hS.1
  intro d
  induction d with
  | zero =>
    intro i hi
    exact Or.inr ⟨fun m h1 h2 => absurd h2 (by omega), fun post hp => ⟨0 + 1, pk_le N i (fun _ => hp) (fun z => absurd z (by omega))⟩⟩
  | succ d ih =>
    intro i hi
    have hi' : i < N := by omega
    have hl := (hL i (by omega)).1
    have E4 : vp_nar .byte (a4 (nI i).toNatClampNeg) = nI (ld i) := by
      rw [nI_clamp (by omega), (hg i (by omega)).2.2.2]; exact pt_nar (by omega)
    by_cases h : pt_cong sy lf rt ld i N
    · refine Or.inl ⟨i, hi', h, fun post hp => ⟨0 + 1, pk_le N i (fun z => absurd z (by omega)) (fun _ => ?_)⟩⟩
      refine pt_cong_w hS hL hg (by omega) (by omega) (fun _ => br_f (by decide) ⟨pk_in i 20 (by omega), pk_in N 20 (by omega), nm_r (e' := upd a4 N (nI (ld i))) (by rw [E4, nI_clamp (by omega)]) hp⟩) (fun z => absurd h z)
    · have st : ∀ (post : Int32 → St1 → Prop) (n : Nat), wX_node_122 post (nI N) f0 f1 f2 f3 f4 f5 f6 a1 a2 a3 a4 a5 a6 a7 a8 a9 a10 a11 a12 a13 a14 a15 a16 n (nI (i + 1)) → wX_node_122 post (nI N) f0 f1 f2 f3 f4 f5 f6 a1 a2 a3 a4 a5 a6 a7 a8 a9 a10 a11 a12 a13 a14 a15 a16 (n + 1) (nI i) := by
        intro post n hn
        refine pk_le N i (fun z => absurd z (by omega)) (fun _ => ?_)
        exact pt_cong_w hS hL hg (by omega) (by omega) (fun z => absurd z h) (fun _ => br_t rfl (nm_r (nI_1 i) hn))
      rcases ih (i + 1) (by omega) with ⟨m, hm, hc, w⟩ | ⟨hc, w⟩
      · refine Or.inl ⟨m, hm, hc, fun post hp => ?_⟩
        obtain ⟨n, hn⟩ := w post hp
        exact ⟨n + 1, st post n hn⟩
      · refine Or.inr ⟨fun m h1 h2 => ?_, fun post hp => ?_⟩
        · by_cases e : m = i
          · rw [e]; exact h
          · exact hc m (by omega) h2
        · obtain ⟨n, hn⟩ := w post hp
          exact ⟨n + 1, st post n hn⟩
end
theorem pt_cong_sym {sy lf rt ld : Nat → Nat} {i j : Nat} (h : pt_cong sy lf rt ld i j) : pt_cong sy lf rt ld j i :=
  ⟨h.1.symm, fun z => h.2.1 (h.1.trans z), h.2.2.1.symm, h.2.2.2.elim (fun z => Or.inl (h.1.symm.trans z)) (fun z => Or.inr z.symm)⟩
theorem pt_cong_trans {sy lf rt ld : Nat → Nat} {i j k : Nat} (h : pt_cong sy lf rt ld i j) (g : pt_cong sy lf rt ld j k) : pt_cong sy lf rt ld i k := by
  refine ⟨h.1.trans g.1, h.2.1, h.2.2.1.trans g.2.2.1, ?_⟩
  rcases h.2.2.2 with z | z
  · exact Or.inl z
  · rcases g.2.2.2 with y | y
    · exact Or.inl (h.1.trans y)
    · exact Or.inr (z.trans y)
theorem pt_sh_add {N s a b : Nat} {sy lf rt : Nat → Nat} (hS : pt_sh N sy lf rt) (hN : N < 20) (hs : s = 0 ∨ s = 20 ∨ s = 21) (ha : a < 20) (hb : b < 20) (hab : s ≠ 0 → a < N ∧ b < N) : pt_sh (N + 1) (pt_up sy N s) (pt_up lf N a) (pt_up rt N b) := by
  refine ⟨by omega, fun i hi => ?_⟩
  by_cases e : i = N
  · subst e
    rw [pt_up_s, pt_up_s, pt_up_s]
    exact ⟨hs, ha, hb, fun z => by have := hab z; omega⟩
  · rw [pt_up_n _ _ e, pt_up_n _ _ e, pt_up_n _ _ e]
    have t := hS.2 i (by omega)
    exact ⟨t.1, t.2.1, t.2.2.1, fun z => by have := t.2.2.2 z; omega⟩
theorem pt_lead_add {N l : Nat} {ld : Nat → Nat} (hL : pt_lead N ld) (hl : l = N ∨ (l < N ∧ ld l = l)) : pt_lead (N + 1) (pt_up ld N l) := by
  intro i hi
  by_cases e : i = N
  · subst e
    rw [pt_up_s]
    rcases hl with z | z
    · subst z
      exact ⟨by omega, pt_up_s _ _ _⟩
    · exact ⟨by omega, by rw [pt_up_n _ _ (by omega)]; exact z.2⟩
  · have t := hL i (by omega)
    rw [pt_up_n _ _ e, pt_up_n _ _ (by omega)]
    exact ⟨by omega, t.2⟩
theorem pt_cong_up {N s a b l l' : Nat} {sy lf rt ld : Nat → Nat} (hS : pt_sh (N + 1) (pt_up sy N s) (pt_up lf N a) (pt_up rt N b)) (hk : ∀ i, i < N + 1 → pt_up sy N s i ≠ 0 → pt_up lf N a i < N ∧ pt_up rt N b i < N) {i j : Nat} (hi : i < N + 1) (hj : j < N + 1) (h : pt_cong (pt_up sy N s) (pt_up lf N a) (pt_up rt N b) (pt_up ld N l) i j) : pt_cong (pt_up sy N s) (pt_up lf N a) (pt_up rt N b) (pt_up ld N l') i j := by
  have k1 := hk i hi h.2.1
  have k2 := hk j hj (fun z => h.2.1 (h.1.trans z))
  refine ⟨h.1, h.2.1, ?_, ?_⟩
  · have t := h.2.2.1
    rw [pt_up_n ld l (show pt_up lf N a i ≠ N by omega), pt_up_n ld l (show pt_up lf N a j ≠ N by omega)] at t
    rw [pt_up_n ld l' (show pt_up lf N a i ≠ N by omega), pt_up_n ld l' (show pt_up lf N a j ≠ N by omega)]
    exact t
  · rcases h.2.2.2 with z | t
    · exact Or.inl z
    · right
      rw [pt_up_n ld l (show pt_up rt N b i ≠ N by omega), pt_up_n ld l (show pt_up rt N b j ≠ N by omega)] at t
      rw [pt_up_n ld l' (show pt_up rt N b i ≠ N by omega), pt_up_n ld l' (show pt_up rt N b j ≠ N by omega)]
      exact t
/-- a new node: closed again -/
theorem pt_clo_add {N s a b l : Nat} {sy lf rt ld : Nat → Nat} (hG : pt_G N sy lf rt ld) (hN : N < 20) (hs : s = 0 ∨ s = 20 ∨ s = 21) (ha : a < 20) (hb : b < 20) (hab : s ≠ 0 → a < N ∧ b < N)
    (hl : (l = N ∧ ∀ m, m < N → ¬ pt_cong (pt_up sy N s) (pt_up lf N a) (pt_up rt N b) (pt_up ld N N) m N) ∨ (∃ m, m < N ∧ l = ld m ∧ pt_cong (pt_up sy N s) (pt_up lf N a) (pt_up rt N b) (pt_up ld N N) m N)) : pt_G (N + 1) (pt_up sy N s) (pt_up lf N a) (pt_up rt N b) (pt_up ld N l) := by
  obtain ⟨hS, hL, hC⟩ := hG
  have hS' := pt_sh_add hS hN hs ha hb hab
  have hk : ∀ i, i < N + 1 → pt_up sy N s i ≠ 0 → pt_up lf N a i < N ∧ pt_up rt N b i < N := by
    intro i hi
    by_cases e : i = N
    · subst e
      rw [pt_up_s, pt_up_s, pt_up_s]
      exact hab
    · rw [pt_up_n _ _ e, pt_up_n _ _ e, pt_up_n _ _ e]
      exact (hS.2 i (by omega)).2.2.2
  refine ⟨hS', pt_lead_add hL ?_, ?_⟩
  · rcases hl with z | ⟨m, hm, e, _⟩
    · exact Or.inl z.1
    · rw [e]; exact Or.inr (hL m hm)
  · have old : ∀ i j, i < N → j < N → pt_cong (pt_up sy N s) (pt_up lf N a) (pt_up rt N b) (pt_up ld N N) i j → ld i = ld j := by
      intro i j hi hj h
      apply hC i j hi hj
      have k1 := hk i (by omega) h.2.1
      have k2 := hk j (by omega) (fun z => h.2.1 (h.1.trans z))
      obtain ⟨h1, h2, h3, h4⟩ := h
      rw [pt_up_n ld N (show pt_up lf N a i ≠ N by omega), pt_up_n ld N (show pt_up lf N a j ≠ N by omega)] at h3
      rw [pt_up_n ld N (show pt_up rt N b i ≠ N by omega), pt_up_n ld N (show pt_up rt N b j ≠ N by omega)] at h4
      have ni : i ≠ N := by omega
      have nj : j ≠ N := by omega
      rw [pt_up_n sy s ni, pt_up_n sy s nj] at h1
      rw [pt_up_n sy s ni] at h2
      rw [pt_up_n lf a ni, pt_up_n lf a nj] at h3
      rw [pt_up_n sy s ni, pt_up_n rt b ni, pt_up_n rt b nj] at h4
      exact ⟨h1, h2, h3, h4⟩
    have new : ∀ i, i < N → pt_cong (pt_up sy N s) (pt_up lf N a) (pt_up rt N b) (pt_up ld N N) i N → ld i = l := by
      intro i hi h
      rcases hl with ⟨_, z⟩ | ⟨m, hm, e, hc⟩
      · exact absurd h (z i hi)
      · rw [e]
        exact old i m hi hm (pt_cong_trans h (pt_cong_sym hc))
    intro i j hi hj h
    have h' := pt_cong_up (l' := N) hS' hk hi hj h
    by_cases ei : i = N
    · by_cases ej : j = N
      · rw [ei, ej]
      · rw [ei, pt_up_s, pt_up_n _ _ ej]
        rw [ei] at h'
        exact (new j (by omega) (pt_cong_sym h')).symm
    · by_cases ej : j = N
      · rw [ej, pt_up_s, pt_up_n _ _ ei]
        rw [ej] at h'
        exact new i (by omega) h'
      · rw [pt_up_n _ _ ei, pt_up_n _ _ ej]
        exact old i j (by omega) (by omega) h'
theorem pt_gm_add {N s a b l : Nat} {sy lf rt ld : Nat → Nat} {a1 a2 a3 a4 : Nat → Int32} (hg : pt_gm N sy lf rt ld a1 a2 a3 a4) : pt_gm (N + 1) (pt_up sy N s) (pt_up lf N a) (pt_up rt N b) (pt_up ld N l) (upd a1 N (nI s)) (upd a2 N (nI a)) (upd a3 N (nI b)) (upd a4 N (nI l)) := by
  intro i hi
  by_cases e : i = N
  · subst e
    rw [pt_up_s, pt_up_s, pt_up_s, pt_up_s, pk_us, pk_us, pk_us, pk_us]
    exact ⟨rfl, rfl, rfl, rfl⟩
  · rw [pt_up_n _ _ e, pt_up_n _ _ e, pt_up_n _ _ e, pt_up_n _ _ e, pk_un e, pk_un e, pk_un e, pk_un e]
    exact hg i (by omega)
theorem pt_upd2 (v : Nat → Int32) (k : Nat) (x y : Int32) : upd (upd v k x) k y = upd v k y := by
  funext j
  by_cases e : j = k
  · rw [e, pk_us, pk_us]
  · rw [pk_un e, pk_un e, pk_un e]
/-- how the law's count goes on -/
def pt_R (N N' : Nat) (r : Int32) : Prop := (r < nI N ∧ N' = N) ∨ (¬ r < nI N ∧ r + 1 = nI N')
section
variable {N : Nat} {sy lf rt ld : Nat → Nat} {T : List Nat} {u : St1}
theorem pt_w_node (h : pt_I N sy lf rt ld T u) {s a b : Nat} (hs : s = 0 ∨ s = 20 ∨ s = 21) (ha : a < 20) (hb : b < 20) (hab : s ≠ 0 → a < N ∧ b < N) :
    ∃ (r : Int32) (N' : Nat) (sy' lf' rt' ld' : Nat → Nat) (u' : St1), pt_I N' sy' lf' rt' ld' T u' ∧ pt_R N N' r ∧ ∀ post : Int32 → St1 → Prop, post r u' → wpX_node post u (nI s) (nI a) (nI b) := by
  obtain ⟨f0, f1, f2, f3, f4, f5, f6, a1, a2, a3, a4, a5, a6, a7, a8, a9, a10, a11, a12, a13, a14, a15, a16⟩ := u
  obtain ⟨hG, e0, hg, hrest⟩ := h
  subst e0
  have hN := hG.1.1
  rcases pt_n3_l (f1 := f1) (f2 := f2) (f3 := f3) (f4 := f4) (f5 := f5) (f6 := f6) (a1 := a1) (a2 := a2) (a3 := a3) (a4 := a4) (a5 := a5) (a6 := a6) (a7 := a7) (a8 := a8) (a9 := a9) (a10 := a10) (a11 := a11) (a12 := a12) (a13 := a13) (a14 := a14) (a15 := a15) (a16 := a16) hG.1 hg (show s < 22 by omega) ha hb N 0 (by omega) with ⟨m, hm, w⟩ | w
  · exact ⟨nI m, N, sy, lf, rt, ld, _, ⟨hG, rfl, hg, hrest⟩, Or.inl ⟨nI_lt hm (by omega), rfl⟩, w⟩
  · by_cases hN2 : N < 20
    · have hgm := pt_gm_add (s := s) (a := a) (b := b) (l := N) hg
      have hS' := pt_sh_add hG.1 hN2 hs ha hb hab
      have hL1 := pt_lead_add (l := N) hG.2.1 (Or.inl rfl)
      have go : ∀ (post : Int32 → St1 → Prop), (∃ n, wX_node_122 post (nI N) (nI (N + 1)) f1 f2 f3 f4 f5 f6 (upd a1 N (nI s)) (upd a2 N (nI a)) (upd a3 N (nI b)) (upd a4 N (nI N)) a5 a6 a7 a8 a9 a10 a11 a12 a13 a14 a15 a16 n (nI 0)) → wpX_node post (nI N, f1, f2, f3, f4, f5, f6, a1, a2, a3, a4, a5, a6, a7, a8, a9, a10, a11, a12, a13, a14, a15, a16) (nI s) (nI a) (nI b) := by
        intro post hp
        have cN : (nI N).toNatClampNeg = N := nI_clamp (by omega)
        refine w post (pk_le N N (fun _ => br_t (nI_lt (b := 20) hN2 (by decide)) (nm_r (nI_1 N) ⟨pk_in N 20 hN2, ?_⟩)) (fun z => absurd z (by omega)))
        exact nm_r (by rw [cN, pt_b8 s (by omega)]) ⟨pk_in N 20 hN2, nm_r (by rw [cN, pt_b8 a (by omega)]) ⟨pk_in N 20 hN2, nm_r (by rw [cN, pt_b8 b (by omega)]) ⟨pk_in N 20 hN2, nm_r (by rw [cN, pt_b8 N (by omega)]) hp⟩⟩⟩
      have hR : pt_R N (N + 1) (nI N) := Or.inr ⟨nI_nlt (Nat.le_refl N) (by omega), nI_1 N⟩
      rcases pt_n122_l (f0 := nI (N + 1)) (f1 := f1) (f2 := f2) (f3 := f3) (f4 := f4) (f5 := f5) (f6 := f6) (a5 := a5) (a6 := a6) (a7 := a7) (a8 := a8) (a9 := a9) (a10 := a10) (a11 := a11) (a12 := a12) (a13 := a13) (a14 := a14) (a15 := a15) (a16 := a16) hS' hL1 hgm N 0 (by omega) with ⟨m, hm, hc, w2⟩ | ⟨hc, w2⟩
      · rw [pt_up_n _ _ (show m ≠ N by omega), pt_upd2] at w2
        refine ⟨nI N, N + 1, pt_up sy N s, pt_up lf N a, pt_up rt N b, pt_up ld N (ld m), _, ⟨pt_clo_add hG hN2 hs ha hb hab (Or.inr ⟨m, hm, rfl, hc⟩), rfl, pt_gm_add hg, hrest⟩, hR, fun post hp => go post (w2 post hp)⟩
      · refine ⟨nI N, N + 1, pt_up sy N s, pt_up lf N a, pt_up rt N b, pt_up ld N N, _, ⟨pt_clo_add hG hN2 hs ha hb hab (Or.inl ⟨rfl, fun m hm => hc m (Nat.zero_le m) hm⟩), rfl, hgm, hrest⟩, hR, fun post hp => go post (w2 post hp)⟩
    · refine ⟨-2, N, sy, lf, rt, ld, _, ⟨hG, rfl, hg, hrest⟩, Or.inl ⟨?_, rfl⟩, fun post hp => w post (pk_le N N (fun _ => br_f ?_ hp) (fun z => absurd z (by omega)))⟩
      · have e : N = 20 := by omega
        subst e
        decide
      · have e : N = 20 := by omega
        subst e
        decide
theorem pt_w_constant (h : pt_I N sy lf rt ld T u) {k : Nat} (hk : k ≤ 5) :
    ∃ (r : Int32) (N' : Nat) (sy' lf' rt' ld' : Nat → Nat) (u' : St1), pt_I N' sy' lf' rt' ld' T u' ∧ pt_R N N' r ∧ ∀ post : Int32 → St1 → Prop, post r u' → wpX_constant post u (nI k) := by
  obtain ⟨r, N', sy', lf', rt', ld', u', h', hR, w⟩ := pt_w_node h (s := 0) (a := k) (b := 0) (Or.inl rfl) (by omega) (by omega) (fun z => absurd rfl z)
  refine ⟨r, N', sy', lf', rt', ld', u', h', hR, fun post hp => ?_⟩
  obtain ⟨c0, c1, c2, c3, c4, c5, c6, c7, c8, c9, c10, c11, c12, c13, c14, c15, c16, c17, c18, c19, c20, c21, c22⟩ := u
  obtain ⟨d0, d1, d2, d3, d4, d5, d6, d7, d8, d9, d10, d11, d12, d13, d14, d15, d16, d17, d18, d19, d20, d21, d22⟩ := u'
  exact br_f (nI_pos (by omega)) (br_t (nI_le (b := 5) hk (by decide)) (w _ hp))
theorem pt_w_one (h : pt_I N sy lf rt ld T u) {a : Nat} (ha : a < N) :
    ∃ (r : Int32) (N' : Nat) (sy' lf' rt' ld' : Nat → Nat) (u' : St1), pt_I N' sy' lf' rt' ld' T u' ∧ pt_R N N' r ∧ ∀ post : Int32 → St1 → Prop, post r u' → wpX_one post u (nI a) := by
  have hN : N ≤ 20 := by
    obtain ⟨c0, c1, c2, c3, c4, c5, c6, c7, c8, c9, c10, c11, c12, c13, c14, c15, c16, c17, c18, c19, c20, c21, c22⟩ := u
    exact h.1.1.1
  obtain ⟨r, N', sy', lf', rt', ld', u', h', hR, w⟩ := pt_w_node h (s := 20) (a := a) (b := 0) (Or.inr (Or.inl rfl)) (by omega) (by omega) (fun z => ⟨ha, by omega⟩)
  refine ⟨r, N', sy', lf', rt', ld', u', h', hR, fun post hp => ?_⟩
  obtain ⟨c0, c1, c2, c3, c4, c5, c6, c7, c8, c9, c10, c11, c12, c13, c14, c15, c16, c17, c18, c19, c20, c21, c22⟩ := u
  obtain ⟨d0, d1, d2, d3, d4, d5, d6, d7, d8, d9, d10, d11, d12, d13, d14, d15, d16, d17, d18, d19, d20, d21, d22⟩ := u'
  unfold wpX_one
  refine pt_w_isN1 h ha ?_
  exact br_f (by decide) (w _ hp)
theorem pt_w_two (h : pt_I N sy lf rt ld T u) {a b : Nat} (ha : a < N) (hb : b < N) :
    ∃ (r : Int32) (N' : Nat) (sy' lf' rt' ld' : Nat → Nat) (u' : St1), pt_I N' sy' lf' rt' ld' T u' ∧ pt_R N N' r ∧ ∀ post : Int32 → St1 → Prop, post r u' → wpX_two post u (nI a) (nI b) := by
  have hN : N ≤ 20 := by
    obtain ⟨c0, c1, c2, c3, c4, c5, c6, c7, c8, c9, c10, c11, c12, c13, c14, c15, c16, c17, c18, c19, c20, c21, c22⟩ := u
    exact h.1.1.1
  obtain ⟨r, N', sy', lf', rt', ld', u', h', hR, w⟩ := pt_w_node h (s := 21) (a := a) (b := b) (Or.inr (Or.inr rfl)) (by omega) (by omega) (fun z => ⟨ha, hb⟩)
  refine ⟨r, N', sy', lf', rt', ld', u', h', hR, fun post hp => ?_⟩
  obtain ⟨c0, c1, c2, c3, c4, c5, c6, c7, c8, c9, c10, c11, c12, c13, c14, c15, c16, c17, c18, c19, c20, c21, c22⟩ := u
  obtain ⟨d0, d1, d2, d3, d4, d5, d6, d7, d8, d9, d10, d11, d12, d13, d14, d15, d16, d17, d18, d19, d20, d21, d22⟩ := u'
  unfold wpX_two
  refine pt_w_isN1 h ha ?_
  refine br_f (by decide) ?_
  refine pt_w_isN1 h hb ?_
  exact br_f (by decide) (w _ hp)
theorem pt_w_isN0 (h : pt_I 0 sy lf rt ld T u) {post : Int32 → Prop} (hp : post 0) : wpX_isNode post u (nI 0) := by
  obtain ⟨c0, c1, c2, c3, c4, c5, c6, c7, c8, c9, c10, c11, c12, c13, c14, c15, c16, c17, c18, c19, c20, c21, c22⟩ := u
  obtain ⟨hG, e0, _⟩ := h
  subst e0
  exact pt_isN0 (Nat.le_refl 0) (by decide) hp
theorem pt_w_token (h : pt_I N sy lf rt ld T u) {t : Nat} (ht : pt_tok t) : ∃ (r : Int32) (T' : List Nat) (u' : St1), pt_I N sy lf rt ld T' u' ∧ ∀ post : Int32 → St1 → Prop, post r u' → wpX_token post u (nI t) := by
  obtain ⟨f0, f1, f2, f3, f4, f5, f6, a1, a2, a3, a4, a5, a6, a7, a8, a9, a10, a11, a12, a13, a14, a15, a16⟩ := u
  obtain ⟨hG, e0, hg, e2, hlen, htok, htk, hcc⟩ := h
  subst e2
  by_cases h7 : T.length < 7
  · refine ⟨nI (T.length + 1), T ++ [t], (f0, f1, nI (T.length + 1), 0, f4, f5, f6, a1, a2, a3, a4, a5, a6, upd a7 T.length (nI t), a8, a9, a10, a11, a12, a13, a14, a15, a16), ⟨hG, e0, hg, by simp, by simp; omega, ?_, ?_, fun z => absurd rfl z⟩, fun post hp => pt_tok_w h7 ht hp⟩
    · intro t' ht'
      rw [List.mem_append] at ht'
      rcases ht' with z | z
      · exact htok t' z
      · have : t' = t := by simpa using z
        rw [this]; exact ht
    · have r := pt_tk_add (t := t) T 0 htk
      rw [Nat.zero_add] at r
      exact r
  · refine ⟨-2, T, _, ⟨hG, e0, hg, rfl, hlen, htok, htk, hcc⟩, fun post hp => br_f ?_ hp⟩
    have e : T.length = 7 := by omega
    rw [e]
    decide
theorem pt_w_wipe (h : pt_I N sy lf rt ld T u) : ∃ (r : Int32) (u' : St1), pt_I N sy lf rt ld [] u' ∧ ∀ post : Int32 → St1 → Prop, post r u' → wpX_wipe post u := by
  obtain ⟨f0, f1, f2, f3, f4, f5, f6, a1, a2, a3, a4, a5, a6, a7, a8, a9, a10, a11, a12, a13, a14, a15, a16⟩ := u
  obtain ⟨hG, e0, hg, e2, hlen, htok, htk, hcc⟩ := h
  exact ⟨f2, (f0, f1, 0, 0, f4, f5, f6, a1, a2, a3, a4, a5, a6, a7, a8, a9, a10, a11, a12, a13, a14, a15, a16), ⟨hG, e0, hg, rfl, by simp, by simp, trivial, fun z => absurd rfl z⟩, fun post hp => hp⟩
end
end
section
/-! ===== push, join, equate ===== -/
/-- the pending couples are nodes; a couple is pending -/
def pt_pv (N : Nat) (a5 a6 : Nat → Int32) (p : Nat) : Prop := ∀ i, i < p → ∃ m n, m < N ∧ n < N ∧ a5 i = nI m ∧ a6 i = nI n
def pt_ph (a5 a6 : Nat → Int32) (p m n : Nat) : Prop := ∃ i, i < p ∧ a5 i = nI m ∧ a6 i = nI n
def pt_tri : Nat → Nat
  | 0 => 0
  | n + 1 => pt_tri n + n
theorem pt_tri_le : ∀ n, n < 21 → pt_tri n ≤ 190 := by decide +kernel
theorem pt_tri_lt : ∀ n, n < 20 → pt_tri n + n ≤ 190 := by decide +kernel
theorem pt_pv_add {N p m n : Nat} {a5 a6 : Nat → Int32} (h : pt_pv N a5 a6 p) (hm : m < N) (hn : n < N) : pt_pv N (upd a5 p (nI m)) (upd a6 p (nI n)) (p + 1) := by
  intro i hi
  by_cases e : i = p
  · rw [e, pk_us, pk_us]
    exact ⟨m, n, hm, hn, rfl, rfl⟩
  · rw [pk_un e, pk_un e]
    exact h i (by omega)
theorem pt_ph_add {p m n m' n' : Nat} {a5 a6 : Nat → Int32} (h : pt_ph a5 a6 p m n) : pt_ph (upd a5 p (nI m')) (upd a6 p (nI n')) (p + 1) m n := by
  obtain ⟨i, h1, h2, h3⟩ := h
  exact ⟨i, by omega, by rw [pk_un (by omega)]; exact h2, by rw [pk_un (by omega)]; exact h3⟩
theorem pt_ph_new {p m n : Nat} {a5 a6 : Nat → Int32} : pt_ph (upd a5 p (nI m)) (upd a6 p (nI n)) (p + 1) m n := ⟨p, by omega, pk_us, pk_us⟩
/-- the leaders when high is led by low -/
def pt_mg (ld : Nat → Nat) (low high : Nat) : Nat → Nat := fun j => if ld j = high then low else ld j
theorem pt_mg_lead {N low high : Nat} {ld : Nat → Nat} (hL : pt_lead N ld) (hl : low < N) (hll : ld low = low) (hne : low ≠ high) : pt_lead N (pt_mg ld low high) := by
  intro i hi
  have t := hL i hi
  unfold pt_mg
  by_cases e : ld i = high
  · rw [if_pos e, if_neg (by omega)]
    exact ⟨hl, hll⟩
  · rw [if_neg e, if_neg (by rw [t.2]; exact e)]
    exact t
theorem pt_mg_cnt {N low high : Nat} {ld : Nat → Nat} (hh : high < N) (hhl : ld high = high) (hll : ld low = low) (hne : low ≠ high) : pt_cnt (fun i => pt_mg ld low high i == i) N < pt_cnt (fun i => ld i == i) N := by
  refine pt_cnt_lt (k := high) (fun i hi h => ?_) hh ?_ ?_
  · have h' : pt_mg ld low high i = i := by simpa using h
    show (ld i == i) = true
    unfold pt_mg at h'
    by_cases e : ld i = high
    · rw [if_pos e] at h'
      rw [← h', hll]
      exact beq_self_eq_true low
    · rw [if_neg e] at h'
      simpa using h'
  · show (pt_mg ld low high high == high) = false
    unfold pt_mg
    rw [if_pos hhl]
    simpa using hne
  · show (ld high == high) = true
    simpa using hhl
section
variable {f0 f1 f2 f3 f4 f5 f6 : Int32} {a1 a2 a3 a4 a5 a6 a7 a8 a9 a10 a11 a12 a13 a14 a15 : Nat → Int32} {a16 : Nat → Int64}
theorem pt_push {post : St1 → Prop} {p a b : Nat} (hp : p < 190) (ha : a < 20) (hb : b < 20) (h : post (f0, nI (p + 1), f2, f3, f4, f5, f6, a1, a2, a3, a4, upd a5 p (nI a), upd a6 p (nI b), a7, a8, a9, a10, a11, a12, a13, a14, a15, a16)) : wpX_push post (f0, nI p, f2, f3, f4, f5, f6, a1, a2, a3, a4, a5, a6, a7, a8, a9, a10, a11, a12, a13, a14, a15, a16) (nI a) (nI b) := by
  have c : (nI p).toNatClampNeg = p := nI_clamp (by omega)
  exact ⟨pk_in p 190 hp, nm_r (by rw [c, pt_b8 a (by omega)]) ⟨pk_in p 190 hp, nm_r (by rw [c, pt_b8 b (by omega)]) (nm_r (nI_1 p) h)⟩⟩
theorem pt_j110 {N n B : Nat} {sy lf rt ld : Nat → Nat} (hS : pt_sh N sy lf rt) (hL : pt_lead N ld) (hg : pt_gm N sy lf rt ld a1 a2 a3 a4) (hn : n < N) (hB : B + n ≤ 190) :
    ∀ (d m p : Nat) (a5 a6 : Nat → Int32), m + d = n → pt_pv N a5 a6 p → p ≤ B + m →
    ∃ (p' : Nat) (b5 b6 : Nat → Int32), pt_pv N b5 b6 p' ∧ p' ≤ B + n ∧ (∀ x y, pt_ph a5 a6 p x y → pt_ph b5 b6 p' x y) ∧ (∀ x, m ≤ x → x < n → ld x ≠ ld n → pt_cong sy lf rt ld x n → pt_ph b5 b6 p' x n) ∧
    ∀ (post : St1 → Prop) (J : Int32 → Int32 → Int32 → Int32 → Int32 → Int32 → Int32 → Int32 → (Nat → Int32) → (Nat → Int32) → (Nat → Int32) → (Nat → Int32) → (Nat → Int32) → (Nat → Int32) → (Nat → Int32) → (Nat → Int32) → (Nat → Int32) → (Nat → Int32) → (Nat → Int32) → (Nat → Int32) → (Nat → Int32) → (Nat → Int32) → (Nat → Int32) → (Nat → Int64) → Prop), J (nI (n + 1)) (nI N) (nI p') f2 f3 f4 f5 f6 a1 a2 a3 a4 b5 b6 a7 a8 a9 a10 a11 a12 a13 a14 a15 a16 → ∃ k, wX_join_110 post J (nI n) k (nI m) (nI N) (nI p) f2 f3 f4 f5 f6 a1 a2 a3 a4 a5 a6 a7 a8 a9 a10 a11 a12 a13 a14 a15 a16 := by
  have hN := hS.1
  intro d
  induction d with
  | zero =>
    intro m p a5 a6 hm hv hp
    exact ⟨p, a5, a6, hv, by omega, fun x y h => h, fun x h1 h2 => absurd h2 (by omega), fun post J hj => ⟨0 + 1, pk_le n m (fun _ => nm_r (nI_1 n) hj) (fun z => absurd z (by omega))⟩⟩
  | succ d ih =>
    intro m p a5 a6 hm hv hp
    have hmN : m < N := by omega
    have lm := (hL m hmN).1
    have ln := (hL n hn).1
    have E4m : a4 (nI m).toNatClampNeg = nI (ld m) := by rw [nI_clamp (by omega)]; exact (hg m hmN).2.2.2
    have E4n : a4 (nI n).toNatClampNeg = nI (ld n) := by rw [nI_clamp (by omega)]; exact (hg n hn).2.2.2
    by_cases h : ld m ≠ ld n ∧ pt_cong sy lf rt ld m n
    · obtain ⟨p', b5, b6, g1, g2, g3, g4, w⟩ := ih (m + 1) (p + 1) (upd a5 p (nI m)) (upd a6 p (nI n)) (by omega) (pt_pv_add hv hmN hn) (by omega)
      refine ⟨p', b5, b6, g1, g2, fun x y hxy => g3 x y (pt_ph_add hxy), fun x h1 h2 h3 h4 => ?_, fun post J hj => ?_⟩
      · by_cases e : x = m
        · rw [e]; exact g3 m n pt_ph_new
        · exact g4 x (by omega) h2 h3 h4
      · obtain ⟨k, hk⟩ := w post J hj
        refine ⟨k + 1, pk_le n m (fun z => absurd z (by omega)) (fun _ => ⟨pk_in m 20 (by omega), pk_in n 20 (by omega), pk_eq (ld m) (ld n) (fun z => absurd z h.1) (fun _ => ?_) E4m E4n⟩)⟩
        exact pt_cong_w hS hL hg hmN hn (fun _ => br_f (by decide) (pt_push (by omega) (by omega) (by omega) (nm_r (nI_1 m) hk))) (fun z => absurd h.2 z)
    · obtain ⟨p', b5, b6, g1, g2, g3, g4, w⟩ := ih (m + 1) p a5 a6 (by omega) hv (by omega)
      refine ⟨p', b5, b6, g1, g2, g3, fun x h1 h2 h3 h4 => ?_, fun post J hj => ?_⟩
      · by_cases e : x = m
        · rw [e] at h3 h4
          exact absurd ⟨h3, h4⟩ h
        · exact g4 x (by omega) h2 h3 h4
      · obtain ⟨k, hk⟩ := w post J hj
        refine ⟨k + 1, pk_le n m (fun z => absurd z (by omega)) (fun _ => ⟨pk_in m 20 (by omega), pk_in n 20 (by omega), pk_eq (ld m) (ld n) (fun _ => nm_r (nI_1 m) hk) (fun z => ?_) E4m E4n⟩)⟩
        exact pt_cong_w hS hL hg hmN hn (fun y => absurd ⟨z, y⟩ h) (fun _ => br_t rfl (nm_r (nI_1 m) hk))
theorem pt_j98 {N : Nat} {sy lf rt ld : Nat → Nat} (hS : pt_sh N sy lf rt) (hL : pt_lead N ld) (hg : pt_gm N sy lf rt ld a1 a2 a3 a4) :
    ∀ (d n p : Nat) (a5 a6 : Nat → Int32), n + d = N → pt_pv N a5 a6 p → p ≤ pt_tri n →
    ∃ (p' : Nat) (b5 b6 : Nat → Int32), pt_pv N b5 b6 p' ∧ p' ≤ 190 ∧ (∀ x y, pt_ph a5 a6 p x y → pt_ph b5 b6 p' x y) ∧ (∀ x y, n ≤ y → y < N → x < y → ld x ≠ ld y → pt_cong sy lf rt ld x y → pt_ph b5 b6 p' x y) ∧
    ∀ post : St1 → Prop, post (nI N, nI p', f2, f3, f4, f5, f6, a1, a2, a3, a4, b5, b6, a7, a8, a9, a10, a11, a12, a13, a14, a15, a16) → ∃ k, wX_join_98 post k (nI n) (nI N) (nI p) f2 f3 f4 f5 f6 a1 a2 a3 a4 a5 a6 a7 a8 a9 a10 a11 a12 a13 a14 a15 a16 := by
  have hN := hS.1
  intro d
  induction d with
  | zero =>
    intro n p a5 a6 hn hv hp
    have := pt_tri_le n (by omega)
    exact ⟨p, a5, a6, hv, by omega, fun x y h => h, fun x y h1 h2 => absurd h2 (by omega), fun post hp => ⟨0 + 1, pk_le N n (fun _ => hp) (fun z => absurd z (by omega))⟩⟩
  | succ d ih =>
    intro n p a5 a6 hn hv hp
    have hnN : n < N := by omega
    obtain ⟨p1, c5, c6, k1, k2, k3, k4, w1⟩ := pt_j110 (f2 := f2) (f3 := f3) (f4 := f4) (f5 := f5) (f6 := f6) (a7 := a7) (a8 := a8) (a9 := a9) (a10 := a10) (a11 := a11) (a12 := a12) (a13 := a13) (a14 := a14) (a15 := a15) (a16 := a16) hS hL hg hnN (pt_tri_lt n (by omega)) n 0 p a5 a6 (by omega) hv (by omega)
    obtain ⟨p', b5, b6, g1, g2, g3, g4, w⟩ := ih (n + 1) p1 c5 c6 (by omega) k1 k2
    refine ⟨p', b5, b6, g1, g2, fun x y h => g3 x y (k3 x y h), fun x y h1 h2 h3 h4 h5 => ?_, fun post hp => ?_⟩
    · by_cases e : y = n
      · rw [e] at h3 h4 h5 ⊢
        exact g3 x n (k4 x (Nat.zero_le x) h3 h4 h5)
      · exact g4 x y (by omega) h2 h3 h4 h5
    · obtain ⟨k, hk⟩ := w post hp
      exact ⟨k + 1, pk_le N n (fun z => absurd z (by omega)) (fun _ => w1 post _ hk)⟩
theorem pt_j53 {N low high : Nat} {ld : Nat → Nat} (hN : N ≤ 20) (hL : pt_lead N ld) (hlo : low < N) (hhi : high < N) :
    ∀ (d i : Nat) (a4 : Nat → Int32), i + d = N → (∀ j, j < i → a4 j = nI (pt_mg ld low high j)) → (∀ j, i ≤ j → j < N → a4 j = nI (ld j)) →
    ∃ b4 : Nat → Int32, (∀ j, j < N → b4 j = nI (pt_mg ld low high j)) ∧ ∀ post : St1 → Prop, (∃ n, wX_join_98 post n (nI 1) (nI N) (nI 0) f2 f3 f4 f5 f6 a1 a2 a3 b4 a5 a6 a7 a8 a9 a10 a11 a12 a13 a14 a15 a16) → ∃ n, wX_join_53 post (nI low) (nI high) (nI N) f1 f2 f3 f4 f5 f6 n (nI i) a1 a2 a3 a4 a5 a6 a7 a8 a9 a10 a11 a12 a13 a14 a15 a16 := by
  intro d
  induction d with
  | zero =>
    intro i a4 hi h1 h2
    exact ⟨a4, fun j hj => h1 j (by omega), fun post hp => ⟨0 + 1, pk_le N i (fun _ => hp) (fun z => absurd z (by omega))⟩⟩
  | succ d ih =>
    intro i a4 hi h1 h2
    have hi' : i < N := by omega
    have li := (hL i hi').1
    have ci : (nI i).toNatClampNeg = i := nI_clamp (by omega)
    have E4 : a4 (nI i).toNatClampNeg = nI (ld i) := by rw [ci]; exact h2 i (Nat.le_refl i) hi'
    by_cases e : ld i = high
    · obtain ⟨b4, hb, w⟩ := ih (i + 1) (upd a4 i (nI low)) (by omega) (by
        intro j hj
        by_cases z : j = i
        · rw [z, pk_us]; unfold pt_mg; rw [if_pos e]
        · rw [pk_un z]; exact h1 j (by omega)) (by
        intro j hj1 hj2
        rw [pk_un (by omega)]; exact h2 j (by omega) hj2)
      refine ⟨b4, hb, fun post hp => ?_⟩
      obtain ⟨n, hn⟩ := w post hp
      exact ⟨n + 1, pk_le N i (fun z => absurd z (by omega)) (fun _ => ⟨pk_in i 20 (by omega), pk_eq (ld i) high (fun _ => ⟨pk_in i 20 (by omega), nm_r (e' := upd a4 i (nI low)) (by rw [ci, pt_b8 low (by omega)]) (nm_r (nI_1 i) hn)⟩) (fun z => absurd e z) E4⟩)⟩
    · obtain ⟨b4, hb, w⟩ := ih (i + 1) a4 (by omega) (by
        intro j hj
        by_cases z : j = i
        · rw [z, h2 i (Nat.le_refl i) hi']; unfold pt_mg; rw [if_neg e]
        · exact h1 j (by omega)) (fun j hj1 hj2 => h2 j (by omega) hj2)
      refine ⟨b4, hb, fun post hp => ?_⟩
      obtain ⟨n, hn⟩ := w post hp
      exact ⟨n + 1, pk_le N i (fun z => absurd z (by omega)) (fun _ => ⟨pk_in i 20 (by omega), pk_eq (ld i) high (fun z => absurd z e) (fun _ => nm_r (nI_1 i) hn) E4⟩)⟩
/-- join of two classes -/
theorem pt_join {N x y : Nat} {sy lf rt ld : Nat → Nat} (hS : pt_sh N sy lf rt) (hL : pt_lead N ld) (hg : pt_gm N sy lf rt ld a1 a2 a3 a4) (hx : x < N) (hy : y < N) (hne : ld x ≠ ld y) :
    ∃ (ld' : Nat → Nat) (p' : Nat) (b4 b5 b6 : Nat → Int32), pt_lead N ld' ∧ pt_gm N sy lf rt ld' a1 a2 a3 b4 ∧ pt_cnt (fun i => ld' i == i) N < pt_cnt (fun i => ld i == i) N ∧ pt_pv N b5 b6 p' ∧ p' ≤ 190 ∧ (∀ m n, n < N → m < n → pt_cong sy lf rt ld' m n → ld' m = ld' n ∨ pt_ph b5 b6 p' m n) ∧
    ∀ post : St1 → Prop, post (nI N, nI p', f2, f3, f4, f5, f6, a1, a2, a3, b4, b5, b6, a7, a8, a9, a10, a11, a12, a13, a14, a15, a16) → wpX_join post (nI N, f1, f2, f3, f4, f5, f6, a1, a2, a3, a4, a5, a6, a7, a8, a9, a10, a11, a12, a13, a14, a15, a16) (nI x) (nI y) := by
  have hN := hS.1
  have lx := hL x hx
  have ly := hL y hy
  have E4x : a4 (nI x).toNatClampNeg = nI (ld x) := by rw [nI_clamp (by omega)]; exact (hg x hx).2.2.2
  have E4y : a4 (nI y).toNatClampNeg = nI (ld y) := by rw [nI_clamp (by omega)]; exact (hg y hy).2.2.2
  have main : ∀ low high, low < N → high < N → ld low = low → ld high = high → low ≠ high → (∀ post : St1 → Prop, (∃ n, wX_join_53 post (nI low) (nI high) (nI N) f1 f2 f3 f4 f5 f6 n 0 a1 a2 a3 a4 a5 a6 a7 a8 a9 a10 a11 a12 a13 a14 a15 a16) → wpX_join post (nI N, f1, f2, f3, f4, f5, f6, a1, a2, a3, a4, a5, a6, a7, a8, a9, a10, a11, a12, a13, a14, a15, a16) (nI x) (nI y)) →
      ∃ (ld' : Nat → Nat) (p' : Nat) (b4 b5 b6 : Nat → Int32), pt_lead N ld' ∧ pt_gm N sy lf rt ld' a1 a2 a3 b4 ∧ pt_cnt (fun i => ld' i == i) N < pt_cnt (fun i => ld i == i) N ∧ pt_pv N b5 b6 p' ∧ p' ≤ 190 ∧ (∀ m n, n < N → m < n → pt_cong sy lf rt ld' m n → ld' m = ld' n ∨ pt_ph b5 b6 p' m n) ∧
      ∀ post : St1 → Prop, post (nI N, nI p', f2, f3, f4, f5, f6, a1, a2, a3, b4, b5, b6, a7, a8, a9, a10, a11, a12, a13, a14, a15, a16) → wpX_join post (nI N, f1, f2, f3, f4, f5, f6, a1, a2, a3, a4, a5, a6, a7, a8, a9, a10, a11, a12, a13, a14, a15, a16) (nI x) (nI y) := by
    intro low high hl hh ell ehh hlh hw
    obtain ⟨b4, hb4, w53⟩ := pt_j53 (f1 := f1) (f2 := f2) (f3 := f3) (f4 := f4) (f5 := f5) (f6 := f6) (a1 := a1) (a2 := a2) (a3 := a3) (a5 := a5) (a6 := a6) (a7 := a7) (a8 := a8) (a9 := a9) (a10 := a10) (a11 := a11) (a12 := a12) (a13 := a13) (a14 := a14) (a15 := a15) (a16 := a16) hN hL hl hh N 0 a4 (by omega) (fun j hj => absurd hj (by omega)) (fun j _ hj => (hg j hj).2.2.2)
    have hL' := pt_mg_lead (high := high) hL hl ell hlh
    have hg' : pt_gm N sy lf rt (pt_mg ld low high) a1 a2 a3 b4 := fun i hi => ⟨(hg i hi).1, (hg i hi).2.1, (hg i hi).2.2.1, hb4 i hi⟩
    obtain ⟨p', b5, b6, g1, g2, _, g4, w98⟩ := pt_j98 (f2 := f2) (f3 := f3) (f4 := f4) (f5 := f5) (f6 := f6) (a7 := a7) (a8 := a8) (a9 := a9) (a10 := a10) (a11 := a11) (a12 := a12) (a13 := a13) (a14 := a14) (a15 := a15) (a16 := a16) hS hL' hg' (N - 1) 1 0 a5 a6 (by omega) (fun i hi => absurd hi (by omega)) (by decide)
    refine ⟨pt_mg ld low high, p', b4, b5, b6, hL', hg', pt_mg_cnt hh ehh ell hlh, g1, g2, fun m n hn hmn hc => ?_, fun post hp => hw post (w53 post (w98 post hp))⟩
    by_cases e : pt_mg ld low high m = pt_mg ld low high n
    · exact Or.inl e
    · exact Or.inr (g4 m n (by omega) hn hmn e hc)
  rcases Nat.lt_or_ge (ld x) (ld y) with hlt | hge
  · refine main (ld x) (ld y) lx.1 ly.1 lx.2 ly.2 hne (fun post hp => ?_)
    refine ⟨pk_in x 20 (by omega), nm_r E4x ⟨pk_in y 20 (by omega), nm_r E4y ?_⟩⟩
    refine pk_eq (ld x) (ld y) (fun z => absurd z hne) (fun _ => ?_)
    exact pk_le (ld y) (ld x) (fun z => absurd z (by omega)) (fun _ => pk_le (ld y) (ld x) (fun z => absurd z (by omega)) (fun _ => hp))
  · refine main (ld y) (ld x) ly.1 lx.1 ly.2 lx.2 (fun z => hne z.symm) (fun post hp => ?_)
    refine ⟨pk_in x 20 (by omega), nm_r E4x ⟨pk_in y 20 (by omega), nm_r E4y ?_⟩⟩
    refine pk_eq (ld x) (ld y) (fun z => absurd z hne) (fun _ => ?_)
    exact pk_le (ld y) (ld x) (fun _ => pk_le (ld y) (ld x) (fun _ => hp) (fun z => absurd z (by omega))) (fun z => absurd z (by omega))
theorem pt_join_e {N x y : Nat} {sy lf rt ld : Nat → Nat} (hN : N ≤ 20) (hL : pt_lead N ld) (hg : pt_gm N sy lf rt ld a1 a2 a3 a4) (hx : x < N) (hy : y < N) (he : ld x = ld y) {post : St1 → Prop} (hp : post (nI N, f1, f2, f3, f4, f5, f6, a1, a2, a3, a4, a5, a6, a7, a8, a9, a10, a11, a12, a13, a14, a15, a16)) : wpX_join post (nI N, f1, f2, f3, f4, f5, f6, a1, a2, a3, a4, a5, a6, a7, a8, a9, a10, a11, a12, a13, a14, a15, a16) (nI x) (nI y) := by
  have lx := hL x hx
  have E4x : a4 (nI x).toNatClampNeg = nI (ld x) := by rw [nI_clamp (by omega)]; exact (hg x hx).2.2.2
  have E4y : a4 (nI y).toNatClampNeg = nI (ld y) := by rw [nI_clamp (by omega)]; exact (hg y hy).2.2.2
  exact ⟨pk_in x 20 (by omega), nm_r E4x ⟨pk_in y 20 (by omega), nm_r E4y (br_t (by rw [he]) hp)⟩⟩
theorem pt_eq_l {N : Nat} {sy lf rt : Nat → Nat} (hS : pt_sh N sy lf rt) :
    ∀ (μ p : Nat) (ld : Nat → Nat) (a4 a5 a6 : Nat → Int32), pt_cnt (fun i => ld i == i) N * 200 + p < μ → p ≤ 190 → pt_lead N ld → pt_gm N sy lf rt ld a1 a2 a3 a4 → pt_pv N a5 a6 p → (∀ m n, n < N → m < n → pt_cong sy lf rt ld m n → ld m = ld n ∨ pt_ph a5 a6 p m n) →
    ∃ (ld' : Nat → Nat) (g1 : Int32) (b4 b5 b6 : Nat → Int32), pt_lead N ld' ∧ pt_clo N sy lf rt ld' ∧ pt_gm N sy lf rt ld' a1 a2 a3 b4 ∧ ∀ post : Int32 → St1 → Prop, post (pt_vC N ld') (nI N, g1, f2, f3, f4, f5, f6, a1, a2, a3, b4, b5, b6, a7, a8, a9, a10, a11, a12, a13, a14, a15, a16) → ∃ n, wX_equate_29 post n (nI N) (nI p) f2 f3 f4 f5 f6 a1 a2 a3 a4 a5 a6 a7 a8 a9 a10 a11 a12 a13 a14 a15 a16 := by
  have hN := hS.1
  intro μ
  induction μ with
  | zero => intro p ld a4 a5 a6 h; exact absurd h (by omega)
  | succ μ ih =>
    intro p ld a4 a5 a6 hμ hp hL hg hv hec
    cases p with
    | zero =>
      have hclo : pt_clo N sy lf rt ld := by
        intro i j hi hj hc
        rcases Nat.lt_trichotomy i j with z | z | z
        · rcases hec i j hj z hc with y | ⟨_, y, _⟩
          · exact y
          · omega
        · rw [z]
        · rcases hec j i hi z (pt_cong_sym hc) with y | ⟨_, y, _⟩
          · exact y.symm
          · omega
      refine ⟨ld, nI 0, a4, a5, a6, hL, hclo, hg, fun post h => ⟨0 + 1, br_t (by decide) ?_⟩⟩
      exact pt_cls_l hN hL (fun i hi => (hg i hi).2.2.2) h N 0 (by omega)
    | succ p =>
      obtain ⟨m, n, hm, hn, e5, e6⟩ := hv p (by omega)
      have cp : (nI p).toNatClampNeg = p := nI_clamp (by omega)
      have hnle : ¬ nI (p + 1) ≤ 0 := nI_nle (by omega) (by omega)
      have st : ∀ (post : Int32 → St1 → Prop) (k : Nat), wpX_join (fun u => match u with | (f0, f1, f2, f3, f4, f5, f6, a1, a2, a3, a4, a5, a6, a7, a8, a9, a10, a11, a12, a13, a14, a15, a16) => wX_equate_29 post k f0 f1 f2 f3 f4 f5 f6 a1 a2 a3 a4 a5 a6 a7 a8 a9 a10 a11 a12 a13 a14 a15 a16) (nI N, nI p, f2, f3, f4, f5, f6, a1, a2, a3, a4, a5, a6, a7, a8, a9, a10, a11, a12, a13, a14, a15, a16) (nI m) (nI n) → wX_equate_29 post (k + 1) (nI N) (nI (p + 1)) f2 f3 f4 f5 f6 a1 a2 a3 a4 a5 a6 a7 a8 a9 a10 a11 a12 a13 a14 a15 a16 := by
        intro post k h
        refine br_f hnle (nm_r (nI_pred p) ⟨pk_in p 190 (by omega), pk_in p 190 (by omega), ?_⟩)
        rw [cp, e5, e6]
        exact h
      by_cases he : ld m = ld n
      · obtain ⟨ld', g1, b4, b5, b6, h1, h2, h3, w⟩ := ih p ld a4 a5 a6 (by omega) (by omega) hL hg (fun i hi => hv i (by omega)) (by
          intro m' n' hn' hmn hc
          rcases hec m' n' hn' hmn hc with z | ⟨i, z1, z2, z3⟩
          · exact Or.inl z
          · by_cases ei : i = p
            · left
              rw [ei] at z2 z3
              have em : nI m = nI m' := e5.symm.trans z2
              have en : nI n = nI n' := e6.symm.trans z3
              rw [nI_eq (by omega) (by omega)] at em en
              rw [← em, ← en]; exact he
            · exact Or.inr ⟨i, by omega, z2, z3⟩)
        refine ⟨ld', g1, b4, b5, b6, h1, h2, h3, fun post hp' => ?_⟩
        obtain ⟨k, hk⟩ := w post hp'
        exact ⟨k + 1, st post k (pt_join_e hN hL hg hm hn he hk)⟩
      · obtain ⟨l1, p1, c4, c5, c6, k1, k2, k3, k4, k5, k6, w1⟩ := pt_join (f1 := nI p) (f2 := f2) (f3 := f3) (f4 := f4) (f5 := f5) (f6 := f6) (a1 := a1) (a2 := a2) (a3 := a3) (a4 := a4) (a5 := a5) (a6 := a6) (a7 := a7) (a8 := a8) (a9 := a9) (a10 := a10) (a11 := a11) (a12 := a12) (a13 := a13) (a14 := a14) (a15 := a15) (a16 := a16) hS hL hg hm hn he
        obtain ⟨ld', g1, b4, b5, b6, h1, h2, h3, w⟩ := ih p1 l1 c4 c5 c6 (by omega) k5 k1 k2 k4 k6
        refine ⟨ld', g1, b4, b5, b6, h1, h2, h3, fun post hp' => ?_⟩
        obtain ⟨k, hk⟩ := w post hp'
        exact ⟨k + 1, st post k (w1 _ hk)⟩
end
section
variable {N : Nat} {sy lf rt ld : Nat → Nat} {T : List Nat} {u : St1}
theorem pt_w_equate (h : pt_I N sy lf rt ld T u) {a b : Nat} (ha : a < N) (hb : b < N) :
    ∃ (ld' : Nat → Nat) (u' : St1), pt_I N sy lf rt ld' T u' ∧ (ld a = ld b → ld' = ld) ∧ ∀ post : Int32 → St1 → Prop, post (pt_vC N ld') u' → wpX_equate post u (nI a) (nI b) := by
  have hI := h
  obtain ⟨f0, f1, f2, f3, f4, f5, f6, a1, a2, a3, a4, a5, a6, a7, a8, a9, a10, a11, a12, a13, a14, a15, a16⟩ := u
  obtain ⟨hG, e0, hg, hrest⟩ := h
  subst e0
  obtain ⟨hS, hL, hC⟩ := hG
  have hN := hS.1
  have go : ∀ post : Int32 → St1 → Prop, (∃ n, wX_equate_29 post n (nI N) (nI 1) f2 f3 f4 f5 f6 a1 a2 a3 a4 (upd a5 0 (nI a)) (upd a6 0 (nI b)) a7 a8 a9 a10 a11 a12 a13 a14 a15 a16) → wpX_equate post (nI N, f1, f2, f3, f4, f5, f6, a1, a2, a3, a4, a5, a6, a7, a8, a9, a10, a11, a12, a13, a14, a15, a16) (nI a) (nI b) := by
    intro post hp
    unfold wpX_equate
    refine pt_w_isN1 hI ha ?_
    refine br_f (by decide) ?_
    refine pt_w_isN1 hI hb ?_
    exact br_f (by decide) (pt_push (p := 0) (by omega) (by omega) (by omega) hp)
  by_cases he : ld a = ld b
  · refine ⟨ld, (nI N, nI 0, f2, f3, f4, f5, f6, a1, a2, a3, a4, upd a5 0 (nI a), upd a6 0 (nI b), a7, a8, a9, a10, a11, a12, a13, a14, a15, a16), ⟨⟨hS, hL, hC⟩, rfl, hg, hrest⟩, fun _ => rfl, fun post hp => go post ⟨0 + 1 + 1, ?_⟩⟩
    refine br_f (by decide) (nm_r (nI_pred 0) ⟨pk_in 0 190 (by omega), pk_in 0 190 (by omega), ?_⟩)
    refine pt_join_e hN hL hg ha hb he ?_
    refine br_t (by decide) ?_
    exact pt_cls_l hN hL (fun i hi => (hg i hi).2.2.2) hp N 0 (by omega)
  · obtain ⟨ld', g1, b4, b5, b6, h1, h2, h3, w⟩ := pt_eq_l (f2 := f2) (f3 := f3) (f4 := f4) (f5 := f5) (f6 := f6) (a1 := a1) (a2 := a2) (a3 := a3) (a7 := a7) (a8 := a8) (a9 := a9) (a10 := a10) (a11 := a11) (a12 := a12) (a13 := a13) (a14 := a14) (a15 := a15) (a16 := a16) hS (pt_cnt (fun i => ld i == i) N * 200 + 1 + 1) 1 ld a4 (upd a5 0 (nI a)) (upd a6 0 (nI b)) (by omega) (by omega) hL hg (pt_pv_add (p := 0) (fun i hi => absurd hi (by omega)) ha hb) (fun m n hn hmn hc => Or.inl (hC m n (by omega) hn hc))
    exact ⟨ld', (nI N, g1, f2, f3, f4, f5, f6, a1, a2, a3, b4, b5, b6, a7, a8, a9, a10, a11, a12, a13, a14, a15, a16), ⟨⟨hS, h1, h2⟩, rfl, h3, hrest⟩, fun z => absurd z he, fun post hp => go post (w post hp)⟩
theorem pt_w_equate0 (h : pt_I 0 sy lf rt ld T u) {post : Int32 → St1 → Prop} (hp : post (-1) u) : wpX_equate post u (nI 0) (nI 0) := by
  obtain ⟨c0, c1, c2, c3, c4, c5, c6, c7, c8, c9, c10, c11, c12, c13, c14, c15, c16, c17, c18, c19, c20, c21, c22⟩ := u
  unfold wpX_equate
  refine pt_w_isN0 h ?_
  exact br_t rfl hp
theorem pt_w_one0 (h : pt_I 0 sy lf rt ld T u) {post : Int32 → St1 → Prop} (hp : post (-1) u) : wpX_one post u (nI 0) := by
  obtain ⟨c0, c1, c2, c3, c4, c5, c6, c7, c8, c9, c10, c11, c12, c13, c14, c15, c16, c17, c18, c19, c20, c21, c22⟩ := u
  unfold wpX_one
  refine pt_w_isN0 h ?_
  exact br_t rfl hp
theorem pt_w_two0 (h : pt_I 0 sy lf rt ld T u) {post : Int32 → St1 → Prop} (hp : post (-1) u) : wpX_two post u (nI 0) (nI 0) := by
  obtain ⟨c0, c1, c2, c3, c4, c5, c6, c7, c8, c9, c10, c11, c12, c13, c14, c15, c16, c17, c18, c19, c20, c21, c22⟩ := u
  unfold wpX_two
  refine pt_w_isN0 h ?_
  exact br_t rfl hp
end
end
section
/-! ===== the law's loop ===== -/
theorem pt_sw {kk : Nat} (hk : kk < 16) {A B C0 C1 C2 C3 C4 C5 C6 C7 C8 C9 C10 C11 : Prop} (hB : 11 < kk → B) (h0 : kk = 0 → C0) (h1 : kk = 1 → C1) (h2 : kk = 2 → C2) (h3 : kk = 3 → C3) (h4 : kk = 4 → C4) (h5 : kk = 5 → C5) (h6 : kk = 6 → C6) (h7 : kk = 7 → C7) (h8 : kk = 8 → C8) (h9 : kk = 9 → C9) (h10 : kk = 10 → C10) (h11 : kk = 11 → C11) :
    (nI kk < 0 → A) ∧ (¬ nI kk < 0 → ((11 < nI kk → B) ∧ (¬ 11 < nI kk → ((nI kk = 0 → C0) ∧ (¬ nI kk = 0 → ((nI kk = 1 → C1) ∧ (¬ nI kk = 1 → ((nI kk = 2 → C2) ∧ (¬ nI kk = 2 → ((nI kk = 3 → C3) ∧ (¬ nI kk = 3 → ((nI kk = 4 → C4) ∧ (¬ nI kk = 4 → ((nI kk = 5 → C5) ∧ (¬ nI kk = 5 → ((nI kk = 6 → C6) ∧ (¬ nI kk = 6 → ((nI kk = 7 → C7) ∧ (¬ nI kk = 7 → ((nI kk = 8 → C8) ∧ (¬ nI kk = 8 → ((nI kk = 9 → C9) ∧ (¬ nI kk = 9 → ((nI kk = 10 → C10) ∧ (¬ nI kk = 10 → ((nI kk = 11 → C11) ∧ (¬ nI kk = 11 → True))))))))))))))))))))))))))) :=
  br_f (nI_pos (by omega)) (pk_lt 11 kk hB (fun _ => pk_eq kk 0 h0 (fun _ => pk_eq kk 1 h1 (fun _ => pk_eq kk 2 h2 (fun _ => pk_eq kk 3 h3 (fun _ => pk_eq kk 4 h4 (fun _ => pk_eq kk 5 h5 (fun _ => pk_eq kk 6 h6 (fun _ => pk_eq kk 7 h7 (fun _ => pk_eq kk 8 h8 (fun _ => pk_eq kk 9 h9 (fun _ => pk_eq kk 10 h10 (fun _ => pk_eq kk 11 h11 (fun _ => trivial))))))))))))))
/-- the law's token -/
theorem pt_ltok (p0 : Int32) : ∃ t, pt_tok t ∧ ∀ post : Int32 → Prop, post (nI t) → wpL_token post () p0 := by
  have e7 : p0 &&& 7 = nI (p0.toBitVec.toNat % 2 ^ 3) := pk_and p0 3 (by decide)
  have e3 : p0 &&& 3 = nI (p0.toBitVec.toNat % 2 ^ 2) := pk_and p0 2 (by decide)
  obtain ⟨j, hj, e1⟩ := pk_andE (p0 >>> ((3 : Int32) &&& 31)) (m := 1) 1 (by decide)
  generalize hq : p0.toBitVec.toNat = q at e7 e3
  by_cases c1 : 3 ≤ q % 2 ^ 3
  · by_cases c2 : q % 2 ^ 3 = 3
    · refine ⟨10 + j, Or.inr (Or.inl ⟨by omega, by omega⟩), fun post hp => ?_⟩
      refine br_t (by rw [e7]; exact nI_le (a := 3) c1 (by omega)) (br_t (by rw [e7, c2]; rfl) ?_)
      rw [e1, show (10 : Int32) = nI 10 from rfl, nI_add]
      exact hp
    · have n3 : ¬ (p0 &&& 7) = 3 := by
        rw [e7]
        intro z
        exact c2 ((nI_eq (b := 3) (by omega) (by decide)).mp z)
      by_cases c3 : 6 ≤ q % 2 ^ 3
      · exact ⟨21, Or.inr (Or.inr (Or.inr rfl)), fun post hp => br_t (by rw [e7]; exact nI_le (a := 3) c1 (by omega)) (br_f n3 (br_t (by rw [e7]; exact nI_le (a := 6) c3 (by omega)) hp))⟩
      · exact ⟨20, Or.inr (Or.inr (Or.inl rfl)), fun post hp => br_t (by rw [e7]; exact nI_le (a := 3) c1 (by omega)) (br_f n3 (br_f (by rw [e7]; exact nI_ge (b := 6) (by omega) (by decide)) hp))⟩
  · refine ⟨q % 2 ^ 2, Or.inl (by omega), fun post hp => br_f (by rw [e7]; exact nI_ge (b := 3) (by omega) (by decide)) ?_⟩
    rw [e3]
    exact hp
theorem pt_m1lt : ∀ N, N < 21 → (-1 : Int32) < nI N := by decide +kernel
theorem pt_Rm1 {N : Nat} (hN : N ≤ 20) : pt_R N N (-1) := Or.inl ⟨pt_m1lt N (by omega), rfl⟩
theorem pt_cond {L i : Nat} (hL : L ≤ 260) (hi : i ≤ L) : (Int32.ofNat L - 3) < nI i ↔ L < i + 3 := by
  have e : (nI L - nI 3).toInt = (L : Int) - 3 := pk_sub_toInt (by omega) (by omega)
  have e2 : (nI i).toInt = (i : Int) := nI_toInt (by omega)
  show (nI L - nI 3) < nI i ↔ _
  rw [Int32.lt_iff_toInt_lt, e, e2]
  omega
section
variable {N : Nat} {sy lf rt ld : Nat → Nat} {T : List Nat} {u : St1}
theorem pt_hN (h : pt_I N sy lf rt ld T u) : N ≤ 20 := by
  obtain ⟨c0, c1, c2, c3, c4, c5, c6, c7, c8, c9, c10, c11, c12, c13, c14, c15, c16, c17, c18, c19, c20, c21, c22⟩ := u
  exact h.1.1.1
theorem pt_v_one (h : pt_I N sy lf rt ld T u) {a : Nat} (ha : a < N ∨ (N = 0 ∧ a = 0)) :
    ∃ (r : Int32) (N' : Nat) (sy' lf' rt' ld' : Nat → Nat) (u' : St1), pt_I N' sy' lf' rt' ld' T u' ∧ pt_R N N' r ∧ ∀ post : Int32 → St1 → Prop, post r u' → wpX_one post u (nI a) := by
  rcases ha with z | ⟨z1, z2⟩
  · exact pt_w_one h z
  · subst z1 z2
    exact ⟨-1, 0, sy, lf, rt, ld, u, h, pt_Rm1 (by omega), fun post hp => pt_w_one0 h hp⟩
theorem pt_v_two (h : pt_I N sy lf rt ld T u) {a b : Nat} (ha : a < N ∨ (N = 0 ∧ a = 0)) (hb : b < N ∨ (N = 0 ∧ b = 0)) :
    ∃ (r : Int32) (N' : Nat) (sy' lf' rt' ld' : Nat → Nat) (u' : St1), pt_I N' sy' lf' rt' ld' T u' ∧ pt_R N N' r ∧ ∀ post : Int32 → St1 → Prop, post r u' → wpX_two post u (nI a) (nI b) := by
  rcases ha with z | ⟨z1, z2⟩
  · rcases hb with y | ⟨y1, y2⟩
    · exact pt_w_two h z y
    · omega
  · rcases hb with y | ⟨y1, y2⟩
    · omega
    · subst z1 z2 y2
      exact ⟨-1, 0, sy, lf, rt, ld, u, h, pt_Rm1 (by omega), fun post hp => pt_w_two0 h hp⟩
end
/-- from place i on the law answers 1 -/
def pt_go (L : Nat) (xs : Nat → Int32) (kc ks i : Nat) : Prop := ∀ (N : Nat) (sy lf rt ld : Nat → Nat) (T : List Nat) (f0 f1 f2 f3 f4 f5 f6 : Int32) (a1 a2 a3 a4 a5 a6 a7 a8 a9 a10 a11 a12 a13 a14 a15 : Nat → Int32) (a16 : Nat → Int64), pt_I N sy lf rt ld T (f0, f1, f2, f3, f4, f5, f6, a1, a2, a3, a4, a5, a6, a7, a8, a9, a10, a11, a12, a13, a14, a15, a16) → ∃ n, wL_law_12 (fun r => r = 1) L xs kc ks n (nI N) (nI i) f0 f1 f2 f3 f4 f5 f6 a1 a2 a3 a4 a5 a6 a7 a8 a9 a10 a11 a12 a13 a14 a15 a16
section
variable {L kc ks i : Nat} {xs : Nat → Int32}
theorem pt_334 (IH : pt_go L xs kc ks (i + 3)) (N : Nat) (sy lf rt ld : Nat → Nat) (T : List Nat) (f0 f1 f2 f3 f4 f5 f6 : Int32) (a1 a2 a3 a4 a5 a6 a7 a8 a9 a10 a11 a12 a13 a14 a15 : Nat → Int32) (a16 : Nat → Int64) (h : pt_I N sy lf rt ld T (f0, f1, f2, f3, f4, f5, f6, a1, a2, a3, a4, a5, a6, a7, a8, a9, a10, a11, a12, a13, a14, a15, a16)) : ∃ n, wL_law_334 (fun r => r = 1) L xs (wL_law_12 (fun r => r = 1) L xs kc ks n) (nI N) (nI i) kc ks f0 f1 f2 f3 f4 f5 f6 a1 a2 a3 a4 a5 a6 a7 a8 a9 a10 a11 a12 a13 a14 a15 a16 := by
  obtain ⟨u', h', w⟩ := pt_w_summed h
  obtain ⟨c0, c1, c2, c3, c4, c5, c6, c7, c8, c9, c10, c11, c12, c13, c14, c15, c16, c17, c18, c19, c20, c21, c22⟩ := u'
  obtain ⟨n, hn⟩ := IH N sy lf rt ld T c0 c1 c2 c3 c4 c5 c6 c7 c8 c9 c10 c11 c12 c13 c14 c15 c16 c17 c18 c19 c20 c21 c22 h'
  exact ⟨n, w _ (br_f (by decide) (nm_r (nI_add i 3) hn))⟩
theorem pt_323 (IH : pt_go L xs kc ks (i + 3)) (N : Nat) (r : Int32) (N' : Nat) (sy lf rt ld : Nat → Nat) (T : List Nat) (f0 f1 f2 f3 f4 f5 f6 : Int32) (a1 a2 a3 a4 a5 a6 a7 a8 a9 a10 a11 a12 a13 a14 a15 : Nat → Int32) (a16 : Nat → Int64) (h : pt_I N' sy lf rt ld T (f0, f1, f2, f3, f4, f5, f6, a1, a2, a3, a4, a5, a6, a7, a8, a9, a10, a11, a12, a13, a14, a15, a16)) (hR : pt_R N N' r) : ∃ n, wL_law_323 (fun r => r = 1) L xs (wL_law_12 (fun r => r = 1) L xs kc ks n) (nI N) (nI i) r kc ks f0 f1 f2 f3 f4 f5 f6 a1 a2 a3 a4 a5 a6 a7 a8 a9 a10 a11 a12 a13 a14 a15 a16 := by
  obtain ⟨n, hn⟩ := pt_334 IH N' sy lf rt ld T f0 f1 f2 f3 f4 f5 f6 a1 a2 a3 a4 a5 a6 a7 a8 a9 a10 a11 a12 a13 a14 a15 a16 h
  refine ⟨n, ?_⟩
  rcases hR with ⟨h1, h2⟩ | ⟨h1, h2⟩
  · rw [h2] at hn
    exact br_t h1 hn
  · exact br_f h1 (nm_r h2 hn)
theorem pt_144 (hL : L ≤ 260) (hi : i + 3 ≤ L) (IH : pt_go L xs kc ks (i + 3)) {N : Nat} {sy lf rt ld : Nat → Nat} {T : List Nat} (f0 f1 f2 f3 f4 f5 f6 : Int32) (a1 a2 a3 a4 a5 a6 a7 a8 a9 a10 a11 a12 a13 a14 a15 : Nat → Int32) (a16 : Nat → Int64) (h : pt_I N sy lf rt ld T (f0, f1, f2, f3, f4, f5, f6, a1, a2, a3, a4, a5, a6, a7, a8, a9, a10, a11, a12, a13, a14, a15, a16)) : ∃ n, wL_law_144 (fun r => r = 1) L xs (wL_law_12 (fun r => r = 1) L xs kc ks n) (nI N) (nI i) kc ks f0 f1 f2 f3 f4 f5 f6 a1 a2 a3 a4 a5 a6 a7 a8 a9 a10 a11 a12 a13 a14 a15 a16 := by
  obtain ⟨c, hc, e⟩ := pk_andE (xs (nI i + 2).toNatClampNeg) (m := 255) 8 (by decide)
  obtain ⟨r, N', sy', lf', rt', ld', u', h', hR, w⟩ := pt_w_constant h (k := c % 6) (by omega)
  obtain ⟨d0, d1, d2, d3, d4, d5, d6, d7, d8, d9, d10, d11, d12, d13, d14, d15, d16, d17, d18, d19, d20, d21, d22⟩ := u'
  obtain ⟨n, hn⟩ := pt_323 IH N r N' sy' lf' rt' ld' T d0 d1 d2 d3 d4 d5 d6 d7 d8 d9 d10 d11 d12 d13 d14 d15 d16 d17 d18 d19 d20 d21 d22 h' hR
  refine ⟨n, pk_in (i + 2) L (by omega) (nI_add i 2), by decide, ?_⟩
  rw [e, show nI c - nI c / 6 * 6 = nI (c % 6) from pk_rem (d := 6) (by omega) (by decide) (by decide)]
  exact w _ hn
theorem pt_165 (IH : pt_go L xs kc ks (i + 3)) {N a : Nat} {sy lf rt ld : Nat → Nat} {T : List Nat} (f0 f1 f2 f3 f4 f5 f6 : Int32) (a1 a2 a3 a4 a5 a6 a7 a8 a9 a10 a11 a12 a13 a14 a15 : Nat → Int32) (a16 : Nat → Int64) (h : pt_I N sy lf rt ld T (f0, f1, f2, f3, f4, f5, f6, a1, a2, a3, a4, a5, a6, a7, a8, a9, a10, a11, a12, a13, a14, a15, a16)) (ha : a < N ∨ (N = 0 ∧ a = 0)) : ∃ n, wL_law_165 (fun r => r = 1) L xs (wL_law_12 (fun r => r = 1) L xs kc ks n) (nI N) (nI i) (nI a) kc ks f0 f1 f2 f3 f4 f5 f6 a1 a2 a3 a4 a5 a6 a7 a8 a9 a10 a11 a12 a13 a14 a15 a16 := by
  obtain ⟨r, N', sy', lf', rt', ld', u', h', hR, w⟩ := pt_v_one h ha
  obtain ⟨d0, d1, d2, d3, d4, d5, d6, d7, d8, d9, d10, d11, d12, d13, d14, d15, d16, d17, d18, d19, d20, d21, d22⟩ := u'
  obtain ⟨n, hn⟩ := pt_323 IH N r N' sy' lf' rt' ld' T d0 d1 d2 d3 d4 d5 d6 d7 d8 d9 d10 d11 d12 d13 d14 d15 d16 d17 d18 d19 d20 d21 d22 h' hR
  exact ⟨n, w _ hn⟩
theorem pt_176 (IH : pt_go L xs kc ks (i + 3)) {N a b : Nat} {sy lf rt ld : Nat → Nat} {T : List Nat} (f0 f1 f2 f3 f4 f5 f6 : Int32) (a1 a2 a3 a4 a5 a6 a7 a8 a9 a10 a11 a12 a13 a14 a15 : Nat → Int32) (a16 : Nat → Int64) (h : pt_I N sy lf rt ld T (f0, f1, f2, f3, f4, f5, f6, a1, a2, a3, a4, a5, a6, a7, a8, a9, a10, a11, a12, a13, a14, a15, a16)) (ha : a < N ∨ (N = 0 ∧ a = 0)) (hb : b < N ∨ (N = 0 ∧ b = 0)) : ∃ n, wL_law_176 (fun r => r = 1) L xs (wL_law_12 (fun r => r = 1) L xs kc ks n) (nI N) (nI i) (nI a) (nI b) kc ks f0 f1 f2 f3 f4 f5 f6 a1 a2 a3 a4 a5 a6 a7 a8 a9 a10 a11 a12 a13 a14 a15 a16 := by
  obtain ⟨r, N', sy', lf', rt', ld', u', h', hR, w⟩ := pt_v_two h ha hb
  obtain ⟨d0, d1, d2, d3, d4, d5, d6, d7, d8, d9, d10, d11, d12, d13, d14, d15, d16, d17, d18, d19, d20, d21, d22⟩ := u'
  obtain ⟨n, hn⟩ := pt_323 IH N r N' sy' lf' rt' ld' T d0 d1 d2 d3 d4 d5 d6 d7 d8 d9 d10 d11 d12 d13 d14 d15 d16 d17 d18 d19 d20 d21 d22 h' hR
  exact ⟨n, w _ hn⟩
theorem pt_189 (IH : pt_go L xs kc ks (i + 3)) {N a b : Nat} {sy lf rt ld : Nat → Nat} {T : List Nat} (f0 f1 f2 f3 f4 f5 f6 : Int32) (a1 a2 a3 a4 a5 a6 a7 a8 a9 a10 a11 a12 a13 a14 a15 : Nat → Int32) (a16 : Nat → Int64) (h : pt_I N sy lf rt ld T (f0, f1, f2, f3, f4, f5, f6, a1, a2, a3, a4, a5, a6, a7, a8, a9, a10, a11, a12, a13, a14, a15, a16)) (ha : a < N ∨ (N = 0 ∧ a = 0)) (hb : b < N ∨ (N = 0 ∧ b = 0)) : ∃ n, wL_law_189 (fun r => r = 1) L xs (wL_law_12 (fun r => r = 1) L xs kc ks n) (nI N) (nI i) (nI a) (nI b) (-1) kc ks f0 f1 f2 f3 f4 f5 f6 a1 a2 a3 a4 a5 a6 a7 a8 a9 a10 a11 a12 a13 a14 a15 a16 := by
  have hN := pt_hN h
  obtain ⟨u1, h1, w1⟩ := pt_w_sum h
  by_cases h0 : N = 0
  · have ea : a = 0 := by omega
    have eb : b = 0 := by omega
    subst h0 ea eb
    obtain ⟨c0, c1, c2, c3, c4, c5, c6, c7, c8, c9, c10, c11, c12, c13, c14, c15, c16, c17, c18, c19, c20, c21, c22⟩ := u1
    obtain ⟨n, hn⟩ := pt_323 IH 0 (-1) 0 sy lf rt ld T c0 c1 c2 c3 c4 c5 c6 c7 c8 c9 c10 c11 c12 c13 c14 c15 c16 c17 c18 c19 c20 c21 c22 h1 (pt_Rm1 (by omega))
    refine ⟨n, w1 _ ?_⟩
    refine br_t (by decide) ?_
    unfold wL_law_219 wL_law_220
    refine pt_w_equate0 h1 ?_
    exact br_t (by decide) (br_t rfl hn)
  · have ha' : a < N := by omega
    have hb' : b < N := by omega
    have hnle : ¬ nI N ≤ 0 := nI_nle (by omega) (by omega)
    obtain ⟨ld', u2, h2, he, w2⟩ := pt_w_equate h1 ha' hb'
    have hla := (show pt_lead N ld by obtain ⟨c0, c1, c2, c3, c4, c5, c6, c7, c8, c9, c10, c11, c12, c13, c14, c15, c16, c17, c18, c19, c20, c21, c22⟩ := u1; exact h1.1.2.1) a ha'
    have hlb := (show pt_lead N ld by obtain ⟨c0, c1, c2, c3, c4, c5, c6, c7, c8, c9, c10, c11, c12, c13, c14, c15, c16, c17, c18, c19, c20, c21, c22⟩ := u1; exact h1.1.2.1) b hb'
    by_cases hab : ld a = ld b
    · have e := he hab
      subst e
      obtain ⟨u3, h3, w3⟩ := pt_w_sum h2
      obtain ⟨c0, c1, c2, c3, c4, c5, c6, c7, c8, c9, c10, c11, c12, c13, c14, c15, c16, c17, c18, c19, c20, c21, c22⟩ := u1
      obtain ⟨d0, d1, d2, d3, d4, d5, d6, d7, d8, d9, d10, d11, d12, d13, d14, d15, d16, d17, d18, d19, d20, d21, d22⟩ := u2
      obtain ⟨e0, e1, e2, e3, e4, e5, e6, e7, e8, e9, e10, e11, e12, e13, e14, e15, e16, e17, e18, e19, e20, e21, e22⟩ := u3
      obtain ⟨n, hn⟩ := pt_323 IH N (-1) N sy lf rt ld' T e0 e1 e2 e3 e4 e5 e6 e7 e8 e9 e10 e11 e12 e13 e14 e15 e16 e17 e18 e19 e20 e21 e22 h3 (pt_Rm1 hN)
      refine ⟨n, w1 _ ?_⟩
      refine br_f hnle ?_
      refine pt_w_leader h1 ha' ?_
      refine pt_w_leader h1 hb' ?_
      refine br_t (by rw [hab]) ?_
      refine w2 _ ?_
      refine br_f hnle ?_
      refine pt_w_classes h2 ?_
      refine br_t rfl ?_
      refine br_f (by decide) ?_
      refine w3 _ ?_
      exact br_t rfl hn
    · obtain ⟨c0, c1, c2, c3, c4, c5, c6, c7, c8, c9, c10, c11, c12, c13, c14, c15, c16, c17, c18, c19, c20, c21, c22⟩ := u1
      obtain ⟨d0, d1, d2, d3, d4, d5, d6, d7, d8, d9, d10, d11, d12, d13, d14, d15, d16, d17, d18, d19, d20, d21, d22⟩ := u2
      obtain ⟨n, hn⟩ := pt_323 IH N (-1) N sy lf rt ld' T d0 d1 d2 d3 d4 d5 d6 d7 d8 d9 d10 d11 d12 d13 d14 d15 d16 d17 d18 d19 d20 d21 d22 h2 (pt_Rm1 hN)
      refine ⟨n, w1 _ ?_⟩
      refine br_f hnle ?_
      refine pt_w_leader h1 ha' ?_
      refine pt_w_leader h1 hb' ?_
      refine pk_eq (ld a) (ld b) (fun z => absurd z hab) (fun _ => ?_)
      unfold wL_law_219 wL_law_220
      refine w2 _ ?_
      refine br_f hnle ?_
      refine pt_w_classes h2 ?_
      exact br_t rfl (br_t rfl hn)
theorem pt_296 (IH : pt_go L xs kc ks (i + 3)) {N t : Nat} {sy lf rt ld : Nat → Nat} {T : List Nat} (f0 f1 f2 f3 f4 f5 f6 : Int32) (a1 a2 a3 a4 a5 a6 a7 a8 a9 a10 a11 a12 a13 a14 a15 : Nat → Int32) (a16 : Nat → Int64) (h : pt_I N sy lf rt ld T (f0, f1, f2, f3, f4, f5, f6, a1, a2, a3, a4, a5, a6, a7, a8, a9, a10, a11, a12, a13, a14, a15, a16)) (ht : pt_tok t) : ∃ n, wL_law_296 (fun r => r = 1) L xs (wL_law_12 (fun r => r = 1) L xs kc ks n) (nI N) (nI i) (-1) (nI t) kc ks f0 f1 f2 f3 f4 f5 f6 a1 a2 a3 a4 a5 a6 a7 a8 a9 a10 a11 a12 a13 a14 a15 a16 := by
  have hN := pt_hN h
  obtain ⟨r1, T1, u1, h1, w1⟩ := pt_w_token h ht
  obtain ⟨r2, T2, u2, h2, w2⟩ := pt_w_token h1 (t := 20) (Or.inr (Or.inr (Or.inl rfl)))
  obtain ⟨r3, T3, u3, h3, w3⟩ := pt_w_token h2 (t := 1) (Or.inl (by omega))
  obtain ⟨c0, c1, c2, c3, c4, c5, c6, c7, c8, c9, c10, c11, c12, c13, c14, c15, c16, c17, c18, c19, c20, c21, c22⟩ := u1
  obtain ⟨d0, d1, d2, d3, d4, d5, d6, d7, d8, d9, d10, d11, d12, d13, d14, d15, d16, d17, d18, d19, d20, d21, d22⟩ := u2
  obtain ⟨e0, e1, e2, e3, e4, e5, e6, e7, e8, e9, e10, e11, e12, e13, e14, e15, e16, e17, e18, e19, e20, e21, e22⟩ := u3
  obtain ⟨n, hn⟩ := pt_323 IH N (-1) N sy lf rt ld T3 e0 e1 e2 e3 e4 e5 e6 e7 e8 e9 e10 e11 e12 e13 e14 e15 e16 e17 e18 e19 e20 e21 e22 h3 (pt_Rm1 hN)
  exact ⟨n, w1 _ (w2 _ (w3 _ hn))⟩
theorem pt_60 (hL : L ≤ 260) (hi : i + 3 ≤ L) (IH : pt_go L xs kc ks (i + 3)) {N a b : Nat} {sy lf rt ld : Nat → Nat} {T : List Nat} (f0 f1 f2 f3 f4 f5 f6 : Int32) (a1 a2 a3 a4 a5 a6 a7 a8 a9 a10 a11 a12 a13 a14 a15 : Nat → Int32) (a16 : Nat → Int64) (h : pt_I N sy lf rt ld T (f0, f1, f2, f3, f4, f5, f6, a1, a2, a3, a4, a5, a6, a7, a8, a9, a10, a11, a12, a13, a14, a15, a16)) (ha : a < N ∨ (N = 0 ∧ a = 0)) (hb : b < N ∨ (N = 0 ∧ b = 0)) : ∃ n, wL_law_60 (fun r => r = 1) L xs (wL_law_12 (fun r => r = 1) L xs kc ks n) (nI N) (nI i) (nI a) (nI b) kc ks f0 f1 f2 f3 f4 f5 f6 a1 a2 a3 a4 a5 a6 a7 a8 a9 a10 a11 a12 a13 a14 a15 a16 := by
  have hN := pt_hN h
  obtain ⟨t, ht, wt⟩ := pt_ltok ((xs (nI i + 1).toNatClampNeg) >>> ((3 : Int32) &&& 31))
  obtain ⟨kk, hk, ek⟩ := pk_andE (xs (nI i).toNatClampNeg) (m := 15) 4 (by decide)
  have hk16 : kk < 16 := by omega
  have in1 : vp_in (nI i + 1) L := pk_in (i + 1) L (by omega) (nI_1 i)
  have in0 : vp_in (nI i) L := pk_in i L (by omega)
  by_cases k1 : kk ≤ 2
  · obtain ⟨n, hn⟩ := pt_144 hL hi IH f0 f1 f2 f3 f4 f5 f6 a1 a2 a3 a4 a5 a6 a7 a8 a9 a10 a11 a12 a13 a14 a15 a16 h
    refine ⟨n, in1, wt _ ⟨in0, nm_r ek ?_⟩⟩
    exact pt_sw hk16 (fun z => absurd z (by omega)) (fun _ => hn) (fun _ => hn) (fun _ => hn) (fun z => absurd z (by omega)) (fun z => absurd z (by omega)) (fun z => absurd z (by omega)) (fun z => absurd z (by omega)) (fun z => absurd z (by omega)) (fun z => absurd z (by omega)) (fun z => absurd z (by omega)) (fun z => absurd z (by omega)) (fun z => absurd z (by omega))
  by_cases k2 : kk ≤ 4
  · obtain ⟨n, hn⟩ := pt_165 IH f0 f1 f2 f3 f4 f5 f6 a1 a2 a3 a4 a5 a6 a7 a8 a9 a10 a11 a12 a13 a14 a15 a16 h ha
    refine ⟨n, in1, wt _ ⟨in0, nm_r ek ?_⟩⟩
    exact pt_sw hk16 (fun z => absurd z (by omega)) (fun z => absurd z (by omega)) (fun z => absurd z (by omega)) (fun z => absurd z (by omega)) (fun _ => hn) (fun _ => hn) (fun z => absurd z (by omega)) (fun z => absurd z (by omega)) (fun z => absurd z (by omega)) (fun z => absurd z (by omega)) (fun z => absurd z (by omega)) (fun z => absurd z (by omega)) (fun z => absurd z (by omega))
  by_cases k3 : kk ≤ 7
  · obtain ⟨n, hn⟩ := pt_176 IH f0 f1 f2 f3 f4 f5 f6 a1 a2 a3 a4 a5 a6 a7 a8 a9 a10 a11 a12 a13 a14 a15 a16 h ha hb
    refine ⟨n, in1, wt _ ⟨in0, nm_r ek ?_⟩⟩
    exact pt_sw hk16 (fun z => absurd z (by omega)) (fun z => absurd z (by omega)) (fun z => absurd z (by omega)) (fun z => absurd z (by omega)) (fun z => absurd z (by omega)) (fun z => absurd z (by omega)) (fun _ => hn) (fun _ => hn) (fun _ => hn) (fun z => absurd z (by omega)) (fun z => absurd z (by omega)) (fun z => absurd z (by omega)) (fun z => absurd z (by omega))
  by_cases k4 : kk ≤ 9
  · obtain ⟨n, hn⟩ := pt_189 IH f0 f1 f2 f3 f4 f5 f6 a1 a2 a3 a4 a5 a6 a7 a8 a9 a10 a11 a12 a13 a14 a15 a16 h ha hb
    refine ⟨n, in1, wt _ ⟨in0, nm_r ek ?_⟩⟩
    exact pt_sw hk16 (fun z => absurd z (by omega)) (fun z => absurd z (by omega)) (fun z => absurd z (by omega)) (fun z => absurd z (by omega)) (fun z => absurd z (by omega)) (fun z => absurd z (by omega)) (fun z => absurd z (by omega)) (fun z => absurd z (by omega)) (fun z => absurd z (by omega)) (fun _ => hn) (fun _ => hn) (fun z => absurd z (by omega)) (fun z => absurd z (by omega))
  by_cases k5 : kk = 10
  · obtain ⟨r, u', h', w⟩ := pt_w_wipe h
    obtain ⟨c0, c1, c2, c3, c4, c5, c6, c7, c8, c9, c10, c11, c12, c13, c14, c15, c16, c17, c18, c19, c20, c21, c22⟩ := u'
    obtain ⟨n, hn⟩ := pt_323 IH N (-1) N sy lf rt ld [] c0 c1 c2 c3 c4 c5 c6 c7 c8 c9 c10 c11 c12 c13 c14 c15 c16 c17 c18 c19 c20 c21 c22 h' (pt_Rm1 hN)
    refine ⟨n, in1, wt _ ⟨in0, nm_r ek ?_⟩⟩
    refine pt_sw hk16 (fun z => absurd z (by omega)) (fun z => absurd z (by omega)) (fun z => absurd z (by omega)) (fun z => absurd z (by omega)) (fun z => absurd z (by omega)) (fun z => absurd z (by omega)) (fun z => absurd z (by omega)) (fun z => absurd z (by omega)) (fun z => absurd z (by omega)) (fun z => absurd z (by omega)) (fun z => absurd z (by omega)) (fun _ => ?_) (fun z => absurd z (by omega))
    exact w _ hn
  by_cases k6 : kk = 11
  · obtain ⟨r, u1, h1, w1⟩ := pt_w_wipe h
    obtain ⟨r2, T2, u2, h2, w2⟩ := pt_w_token h1 (t := 21) (Or.inr (Or.inr (Or.inr rfl)))
    obtain ⟨c0, c1, c2, c3, c4, c5, c6, c7, c8, c9, c10, c11, c12, c13, c14, c15, c16, c17, c18, c19, c20, c21, c22⟩ := u1
    obtain ⟨d0, d1, d2, d3, d4, d5, d6, d7, d8, d9, d10, d11, d12, d13, d14, d15, d16, d17, d18, d19, d20, d21, d22⟩ := u2
    have ht22 : t < 22 := by unfold pt_tok at ht; omega
    by_cases h20 : 20 ≤ t
    · obtain ⟨n, hn⟩ := pt_296 IH (t := 0) d0 d1 d2 d3 d4 d5 d6 d7 d8 d9 d10 d11 d12 d13 d14 d15 d16 d17 d18 d19 d20 d21 d22 h2 (Or.inl (by omega))
      refine ⟨n, in1, wt _ ⟨in0, nm_r ek ?_⟩⟩
      refine pt_sw hk16 (fun z => absurd z (by omega)) (fun z => absurd z (by omega)) (fun z => absurd z (by omega)) (fun z => absurd z (by omega)) (fun z => absurd z (by omega)) (fun z => absurd z (by omega)) (fun z => absurd z (by omega)) (fun z => absurd z (by omega)) (fun z => absurd z (by omega)) (fun z => absurd z (by omega)) (fun z => absurd z (by omega)) (fun z => absurd z (by omega)) (fun _ => ?_)
      refine w1 _ ?_
      refine w2 _ ?_
      exact br_t (nI_le (a := 20) h20 (by omega)) hn
    · obtain ⟨n, hn⟩ := pt_296 IH (t := t) d0 d1 d2 d3 d4 d5 d6 d7 d8 d9 d10 d11 d12 d13 d14 d15 d16 d17 d18 d19 d20 d21 d22 h2 ht
      refine ⟨n, in1, wt _ ⟨in0, nm_r ek ?_⟩⟩
      refine pt_sw hk16 (fun z => absurd z (by omega)) (fun z => absurd z (by omega)) (fun z => absurd z (by omega)) (fun z => absurd z (by omega)) (fun z => absurd z (by omega)) (fun z => absurd z (by omega)) (fun z => absurd z (by omega)) (fun z => absurd z (by omega)) (fun z => absurd z (by omega)) (fun z => absurd z (by omega)) (fun z => absurd z (by omega)) (fun z => absurd z (by omega)) (fun _ => ?_)
      refine w1 _ ?_
      refine w2 _ ?_
      exact br_f (nI_ge (b := 20) (by omega) (by decide)) hn
  · obtain ⟨r, T', u', h', w⟩ := pt_w_token h ht
    obtain ⟨c0, c1, c2, c3, c4, c5, c6, c7, c8, c9, c10, c11, c12, c13, c14, c15, c16, c17, c18, c19, c20, c21, c22⟩ := u'
    obtain ⟨n, hn⟩ := pt_323 IH N (-1) N sy lf rt ld T' c0 c1 c2 c3 c4 c5 c6 c7 c8 c9 c10 c11 c12 c13 c14 c15 c16 c17 c18 c19 c20 c21 c22 h' (pt_Rm1 hN)
    refine ⟨n, in1, wt _ ⟨in0, nm_r ek ?_⟩⟩
    refine pt_sw hk16 (fun _ => ?_) (fun z => absurd z (by omega)) (fun z => absurd z (by omega)) (fun z => absurd z (by omega)) (fun z => absurd z (by omega)) (fun z => absurd z (by omega)) (fun z => absurd z (by omega)) (fun z => absurd z (by omega)) (fun z => absurd z (by omega)) (fun z => absurd z (by omega)) (fun z => absurd z (by omega)) (fun z => absurd z (by omega)) (fun z => absurd z (by omega))
    exact w _ hn
theorem pt_39 (hL : L ≤ 260) (hi : i + 3 ≤ L) (IH : pt_go L xs kc ks (i + 3)) {N a : Nat} {sy lf rt ld : Nat → Nat} {T : List Nat} (f0 f1 f2 f3 f4 f5 f6 : Int32) (a1 a2 a3 a4 a5 a6 a7 a8 a9 a10 a11 a12 a13 a14 a15 : Nat → Int32) (a16 : Nat → Int64) (h : pt_I N sy lf rt ld T (f0, f1, f2, f3, f4, f5, f6, a1, a2, a3, a4, a5, a6, a7, a8, a9, a10, a11, a12, a13, a14, a15, a16)) (ha : a < N ∨ (N = 0 ∧ a = 0)) : ∃ n, wL_law_39 (fun r => r = 1) L xs (wL_law_12 (fun r => r = 1) L xs kc ks n) (nI N) (nI i) (nI a) kc ks f0 f1 f2 f3 f4 f5 f6 a1 a2 a3 a4 a5 a6 a7 a8 a9 a10 a11 a12 a13 a14 a15 a16 := by
  have hN := pt_hN h
  by_cases h0 : N = 0
  · obtain ⟨n, hn⟩ := pt_60 hL hi IH f0 f1 f2 f3 f4 f5 f6 a1 a2 a3 a4 a5 a6 a7 a8 a9 a10 a11 a12 a13 a14 a15 a16 h ha (b := 0) (Or.inr ⟨h0, rfl⟩)
    exact ⟨n, br_t (by rw [h0]; rfl) hn⟩
  · obtain ⟨c, hc, e⟩ := pk_andE (xs (nI i + 2).toNatClampNeg) (m := 255) 8 (by decide)
    have hcN := Nat.mod_lt c (show 0 < N by omega)
    obtain ⟨n, hn⟩ := pt_60 hL hi IH f0 f1 f2 f3 f4 f5 f6 a1 a2 a3 a4 a5 a6 a7 a8 a9 a10 a11 a12 a13 a14 a15 a16 h ha (b := c % N) (Or.inl hcN)
    have hn0 : ¬ nI N = 0 := nI_ne0 (by omega) (by omega)
    refine ⟨n, br_f hn0 ⟨pk_in (i + 2) L (by omega) (nI_add i 2), hn0, ?_⟩⟩
    rw [e, pk_rem (by omega) (by omega) (by omega)]
    exact hn
theorem pt_law (hL : L ≤ 260) : ∀ (d i : Nat), i ≤ L → L ≤ i + d → pt_go L xs kc ks i := by
  intro d
  induction d using Nat.strongRecOn with
  | ind d ihd =>
  intro i hi hd N sy lf rt ld T f0 f1 f2 f3 f4 f5 f6 f7 f8 f9 f10 f11 f12 f13 f14 f15 f16 f17 f18 f19 f20 f21 f22 h
  have hN := pt_hN h
  by_cases hc : L < i + 3
  · obtain ⟨u', h', w⟩ := pt_w_summed h
    obtain ⟨c0, c1, c2, c3, c4, c5, c6, c7, c8, c9, c10, c11, c12, c13, c14, c15, c16, c17, c18, c19, c20, c21, c22⟩ := u'
    refine ⟨0 + 1, br_t ((pt_cond hL hi).mpr hc) (w _ ?_)⟩
    rfl
  · have IH : pt_go L xs kc ks (i + 3) := ihd (d - 3) (by omega) (i + 3) (by omega) (by omega)
    have hnc : ¬ (Int32.ofNat L - 3) < nI i := fun z => hc ((pt_cond hL hi).mp z)
    by_cases h0 : N = 0
    · obtain ⟨n, hn⟩ := pt_39 hL (by omega) IH f0 f1 f2 f3 f4 f5 f6 f7 f8 f9 f10 f11 f12 f13 f14 f15 f16 f17 f18 f19 f20 f21 f22 h (a := 0) (Or.inr ⟨h0, rfl⟩)
      exact ⟨n + 1, br_f hnc (br_t (by rw [h0]; rfl) hn)⟩
    · obtain ⟨c, hcc, e⟩ := pk_andE (xs (nI i + 1).toNatClampNeg) (m := 255) 8 (by decide)
      have hcN := Nat.mod_lt c (show 0 < N by omega)
      obtain ⟨n, hn⟩ := pt_39 hL (by omega) IH f0 f1 f2 f3 f4 f5 f6 f7 f8 f9 f10 f11 f12 f13 f14 f15 f16 f17 f18 f19 f20 f21 f22 h (a := c % N) (Or.inl hcN)
      have hn0 : ¬ nI N = 0 := nI_ne0 (by omega) (by omega)
      refine ⟨n + 1, br_f hnc (br_f hn0 ⟨pk_in (i + 1) L (by omega) (nI_1 i), hn0, ?_⟩)⟩
      rw [e, pk_rem (by omega) (by omega) (by omega)]
      exact hn
end
theorem pt_I0 : pt_I 0 (fun _ => 0) (fun _ => 0) (fun _ => 0) (fun _ => 0) [] (0, 0, 0, 0, 0, 0, 0, (fun _ => 0), (fun _ => 0), (fun _ => 0), (fun _ => 0), (fun _ => 0), (fun _ => 0), (fun _ => 0), (fun _ => 0), (fun _ => 0), (fun _ => 0), (fun _ => 0), (fun _ => 0), (fun _ => 0), (fun _ => 0), (fun _ => 0), (fun _ => 0)) :=
  ⟨⟨⟨by omega, fun i hi => absurd hi (by omega)⟩, fun i hi => absurd hi (by omega), fun i j hi => absurd hi (by omega)⟩, rfl, fun i hi => absurd hi (by omega), rfl, by simp, by simp, trivial, fun z => absurd rfl z⟩
end
section
theorem i_vc (xs : Nat → Int32) (L : Nat) (hL : L ≤ 260) : wpL_law (fun r => r = 1) L xs := by
  obtain ⟨n, hn⟩ := pt_law (kc := 1 + 16) (ks := 23 + 667) (xs := xs) hL L 0 (by omega) (by omega) 0 (fun _ => 0) (fun _ => 0) (fun _ => 0) (fun _ => 0) [] 0 0 0 0 0 0 0 (fun _ => 0) (fun _ => 0) (fun _ => 0) (fun _ => 0) (fun _ => 0) (fun _ => 0) (fun _ => 0) (fun _ => 0) (fun _ => 0) (fun _ => 0) (fun _ => 0) (fun _ => 0) (fun _ => 0) (fun _ => 0) (fun _ => 0) (fun _ => 0) pt_I0
  refine ⟨16, 667, by omega, by omega, by omega, by omega, by omega, by omega, by omega, by omega, by omega, by omega, by omega, by omega, by omega, by omega, by omega, by omega, by omega, by omega, by omega, by omega, by omega, by omega, by omega, by omega, by omega, by omega, by omega, by omega, by omega, by omega, by omega, by omega, by omega, by omega, ?_⟩
  exact ⟨n, hn⟩
end
