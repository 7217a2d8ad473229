section
/-! the pure picture: sets of places are naturals below 256 -/
theorem pg_and (a b : Nat) : nI a &&& nI b = nI (Nat.land a b) := by
  apply Int32.toBitVec_inj.1
  show BitVec.ofNat 32 a &&& BitVec.ofNat 32 b = BitVec.ofNat 32 (a &&& b)
  apply BitVec.eq_of_getLsbD_eq
  intro i hi
  simp [hi]
theorem pg_xor (a b : Nat) : nI a ^^^ nI b = nI (Nat.xor a b) := by
  apply Int32.toBitVec_inj.1
  show BitVec.ofNat 32 a ^^^ BitVec.ofNat 32 b = BitVec.ofNat 32 (a ^^^ b)
  apply BitVec.eq_of_getLsbD_eq
  intro i hi
  simp [hi]
theorem pg_or (a b : Nat) : nI a ||| nI b = nI (Nat.lor a b) := by
  apply Int32.toBitVec_inj.1
  show BitVec.ofNat 32 a ||| BitVec.ofNat 32 b = BitVec.ofNat 32 (a ||| b)
  apply BitVec.eq_of_getLsbD_eq
  intro i hi
  simp [hi]
theorem pg_m1 : (-1 : Int32) = nI 4294967295 := by decide
theorem pg_nand (a b : Nat) : nI a &&& (nI b ^^^ (-1)) = nI (Nat.land a (Nat.xor b 4294967295)) := by
  rw [pg_m1, pg_xor, pg_and]
theorem pg_sl : ∀ n, n < 32 → ((nI n &&& 31).toBitVec.smod 32).toNat = n := by decide +kernel
theorem pg_sh : ∀ k, k < 8 → (1 : Int32) <<< (nI k &&& 31) = nI (Nat.pow 2 k) := by decide +kernel
theorem pg_or1 {m k : Nat} (hk : k < 8) : nI m ||| ((1 : Int32) <<< (nI k &&& 31)) = nI (Nat.lor m (Nat.pow 2 k)) := by
  rw [pg_sh k hk, pg_or]
theorem pg_beq {a b : Nat} (h : a = b) : Nat.beq a b = true := by
  subst h
  exact Nat.beq_refl a
theorem pg_bne {a b : Nat} (h : a ≠ b) : Nat.beq a b = false := by
  cases e : Nat.beq a b with
  | false => rfl
  | true => exact absurd (Nat.eq_of_beq_eq_true e) h
theorem pg_ble {a b : Nat} (h : a ≤ b) : Nat.ble a b = true := Nat.ble_eq_true_of_le h
theorem pg_bgt {a b : Nat} (h : b < a) : Nat.ble a b = false := by
  cases e : Nat.ble a b with
  | false => rfl
  | true => exact absurd (Nat.le_of_ble_eq_true e) (by omega)
/-- place k lies in the set s -/
def pg_b (s k : Nat) : Bool := Nat.beq (Nat.mod (Nat.div s (Nat.pow 2 k)) 2) 1
theorem pg_bi {s k : Nat} (hs : s < 256) (hk : k < 8) : ((nI s >>> (nI k &&& 31)) &&& 1) = nI (s / 2 ^ k % 2) := by
  have h1 : s / 2 ^ k ≤ s := Nat.div_le_self _ _
  rw [pk_shrN (by omega) _ k (pg_sl k (by omega))]
  exact pk_andN (by omega) 1 (by decide)
theorem pg_tb {s k : Nat} {A B : Prop} (hs : s < 256) (hk : k < 8) (f : pg_b s k = true → A) (g : pg_b s k = false → B) : (((nI s >>> (nI k &&& 31)) &&& 1) = 1 → A) ∧ (¬ ((nI s >>> (nI k &&& 31)) &&& 1) = 1 → B) := by
  have h2 : s / 2 ^ k % 2 < 2 := Nat.mod_lt _ (by decide)
  exact pk_eq (s / 2 ^ k % 2) 1 (fun z => f (pg_beq z)) (fun z => g (pg_bne z)) (pg_bi hs hk) rfl
/-! computing: a number is worked out before it is used -/
def pg_fc {α : Type} (x : Nat) (f : Nat → α) : α := match x with
  | 0 => f 0
  | n + 1 => f (n + 1)
theorem pg_fc_e {α : Type} (x : Nat) (f : Nat → α) : pg_fc x f = f x := by
  cases x <;> rfl
/-- the greatest colour: one place, n places from k -/
def pg_g1 (c : Nat → Nat) (s k m : Nat) : Nat := cond (pg_b s k) (cond (Nat.ble (c k) m) m (c k)) m
def pg_gr (c : Nat → Nat) (s : Nat) : Nat → Nat → Nat → Nat
  | 0, _, m => m
  | n + 1, k, m => pg_fc (pg_g1 c s k m) (fun x => pg_gr c s n (k + 1) x)
theorem pg_gr_s (c : Nat → Nat) (s n k m : Nat) : pg_gr c s (n + 1) k m = pg_gr c s n (k + 1) (pg_g1 c s k m) := by
  simp only [pg_gr, pg_fc_e]
/-- the places of a colour -/
def pg_w1 (c : Nat → Nat) (s q k m : Nat) : Nat := cond (pg_b s k) (cond (Nat.beq (c k) q) (Nat.lor m (Nat.pow 2 k)) m) m
def pg_wc (c : Nat → Nat) (s q : Nat) : Nat → Nat → Nat → Nat
  | 0, _, m => m
  | n + 1, k, m => pg_fc (pg_w1 c s q k m) (fun x => pg_wc c s q n (k + 1) x)
theorem pg_wc_s (c : Nat → Nat) (s q n k m : Nat) : pg_wc c s q (n + 1) k m = pg_wc c s q n (k + 1) (pg_w1 c s q k m) := by
  simp only [pg_wc, pg_fc_e]
/-- forcing: one place, one pass, all passes -/
def pg_f2 (o pl : Nat) (y e : Bool) (s k : Nat) : Nat := cond (cond (Nat.beq o pl) y e) (Nat.lor s (Nat.pow 2 k)) s
def pg_f1 (ow mv : Nat → Nat) (pl am bf k s : Nat) : Nat := cond (pg_b am k) (pg_f2 (ow k) pl (cond (Nat.beq (Nat.land (Nat.land (mv k) am) bf) 0) false true) (Nat.beq (Nat.land (Nat.land (mv k) am) (Nat.xor bf 4294967295)) 0) s k) s
def pg_fp (ow mv : Nat → Nat) (pl am bf : Nat) : Nat → Nat → Nat → Nat
  | 0, _, s => s
  | n + 1, k, s => pg_fc (pg_f1 ow mv pl am bf k s) (fun x => pg_fp ow mv pl am bf n (k + 1) x)
theorem pg_fp_s (ow mv : Nat → Nat) (pl am bf n k s : Nat) : pg_fp ow mv pl am bf (n + 1) k s = pg_fp ow mv pl am bf n (k + 1) (pg_f1 ow mv pl am bf k s) := by
  simp only [pg_fp, pg_fc_e]
def pg_fo (ow mv : Nat → Nat) (pl am : Nat) : Nat → Nat → Nat → Nat
  | 0, s, _ => s
  | n + 1, s, b => cond (Nat.beq s b) s (pg_fc (pg_fp ow mv pl am s 8 0 s) (fun x => pg_fo ow mv pl am n x s))
theorem pg_fo_s (ow mv : Nat → Nat) (pl am n s b : Nat) : pg_fo ow mv pl am (n + 1) s b = cond (Nat.beq s b) s (pg_fo ow mv pl am n (pg_fp ow mv pl am s 8 0 s) s) := by
  simp only [pg_fo, pg_fc_e]
/-! the stack: (set, stage, given) a level, the top first -/
def pg_pl (c : Nat → Nat) (s : Nat) : Nat := Nat.mod (pg_gr c s 8 0 0) 2
def pg_s0 (c ow mv : Nat → Nat) (s : Nat) : Nat := Nat.land s (Nat.xor (pg_fo ow mv (pg_pl c s) s 9 (pg_wc c s (pg_gr c s 8 0 0) 8 0 0) 0) 4294967295)
def pg_lo (c : Nat → Nat) (s w0 w1 : Nat) : Nat := cond (Nat.beq (pg_pl c s) 0) w1 w0
def pg_gv (c ow mv : Nat → Nat) (s w0 w1 : Nat) : Nat := pg_fo ow mv (Nat.sub 1 (pg_pl c s)) s 9 (pg_lo c s w0 w1) 0
def pg_st (c ow mv : Nat → Nat) (s g v : Nat) (r : List (Nat × Nat × Nat)) (w0 w1 : Nat) (K : List (Nat × Nat × Nat) → Nat → Nat → Option (Nat × Nat)) : Option (Nat × Nat) :=
  cond (Nat.ble 11 r.length) none
    (cond (Nat.beq g 0)
      (cond (Nat.beq s 0) (K r 0 0) (pg_fc (pg_s0 c ow mv s) (fun t => K ((t, 0, 0) :: (s, 1, 0) :: r) w0 w1)))
      (cond (Nat.beq g 1)
        (cond (Nat.beq (pg_lo c s w0 w1) 0)
          (K r (cond (Nat.beq (pg_pl c s) 0) s w0) (cond (Nat.beq (pg_pl c s) 0) w1 s))
          (pg_fc (pg_gv c ow mv s w0 w1) (fun f => pg_fc (Nat.land s (Nat.xor f 4294967295)) (fun t => K ((t, 0, 0) :: (s, 2, f) :: r) w0 w1))))
        (pg_fc (cond (Nat.beq (pg_pl c s) 0) w0 (Nat.lor w0 v)) (fun x => pg_fc (cond (Nat.beq (pg_pl c s) 0) (Nat.lor w1 v) w1) (fun y => K r x y)))))
def pg_run (c ow mv : Nat → Nat) : Nat → List (Nat × Nat × Nat) → Nat → Nat → Option (Nat × Nat)
  | 0 => fun st w0 w1 => match st with
    | [] => some (w0, w1)
    | _ :: _ => none
  | n + 1 => fun st w0 w1 => match st with
    | [] => some (w0, w1)
    | e :: r => pg_st c ow mv e.1 e.2.1 e.2.2 r w0 w1 (fun t x y => pg_run c ow mv n t x y)
/-! the law's game -/
def pg_C (a b d k : Nat) : Nat := match k with
  | 1 => a
  | 2 => b
  | 3 => d
  | _ => 0
def pg_O (p k : Nat) : Nat := match k with
  | 0 => p
  | 1 => 1
  | 3 => 1
  | _ => 0
def pg_M (k : Nat) : Nat := match k with
  | 0 => 6
  | 1 => 2
  | 2 => 10
  | 3 => 4
  | _ => Nat.pow 2 k
def pg_two (one ring : Nat) : Nat := cond (Nat.beq one 0) 0 (cond (Nat.beq ring 0) 0 1)
def pg_zero (p one two : Nat) : Nat := cond (Nat.beq p 0) (cond (Nat.beq one 0) 0 (cond (Nat.beq two 0) 0 1)) (cond (Nat.beq one 1) 1 (cond (Nat.beq two 1) 1 0))
def pg_mx (b d : Nat) : Nat := cond (Nat.ble b d) d b
/-- the answers, as the law wants them -/
def pg_fin (p a b d w : Nat) : Prop := w / 2 ^ 1 % 2 = a % 2 ∧ w / 2 ^ 2 % 2 = pg_two (a % 2) (pg_mx b d % 2) ∧ w / 2 ^ 3 % 2 = pg_two (a % 2) (pg_mx b d % 2) ∧ w / 2 ^ 0 % 2 = pg_zero p (a % 2) (pg_two (a % 2) (pg_mx b d % 2)) ∧ w / 2 ^ 7 % 2 = 0
def pg_chk (p a b d : Nat) : Bool := match pg_run (pg_C a b d) (pg_O p) pg_M 40 [(255, 0, 0)] 0 0 with
  | none => false
  | some (x, w) => match pg_run (pg_C a b d) (pg_O p) pg_M 40 [(255, 0, 0)] x w with
    | none => false
    | some (y, v) => Nat.beq x y && Nat.beq w v && Nat.ble x 255 && Nat.ble w 255 && Nat.beq (w / 2 ^ 1 % 2) (a % 2) && Nat.beq (w / 2 ^ 2 % 2) (pg_two (a % 2) (pg_mx b d % 2)) && Nat.beq (w / 2 ^ 3 % 2) (pg_two (a % 2) (pg_mx b d % 2)) && Nat.beq (w / 2 ^ 0 % 2) (pg_zero p (a % 2) (pg_two (a % 2) (pg_mx b d % 2))) && Nat.beq (w / 2 ^ 7 % 2) 0 && pg_b (pg_fo (pg_O p) pg_M 0 255 9 2 0) 0
theorem pg_all : ∀ p, p < 2 → ∀ a, a < 6 → ∀ b, b < 6 → ∀ d, d < 6 → pg_chk p a b d = true := by decide +kernel
theorem pg_chk_e {p a b d : Nat} (h : pg_chk p a b d = true) : ∃ x w, pg_run (pg_C a b d) (pg_O p) pg_M 40 [(255, 0, 0)] 0 0 = some (x, w) ∧ pg_run (pg_C a b d) (pg_O p) pg_M 40 [(255, 0, 0)] x w = some (x, w) ∧ x < 256 ∧ w < 256 ∧ pg_fin p a b d w ∧ pg_b (pg_fo (pg_O p) pg_M 0 255 9 2 0) 0 = true := by
  unfold pg_chk at h
  cases h1 : pg_run (pg_C a b d) (pg_O p) pg_M 40 [(255, 0, 0)] 0 0 with
  | none =>
    rw [h1] at h
    exact absurd h Bool.false_ne_true
  | some q =>
    obtain ⟨x, w⟩ := q
    rw [h1] at h
    dsimp only at h
    cases h2 : pg_run (pg_C a b d) (pg_O p) pg_M 40 [(255, 0, 0)] x w with
    | none =>
      rw [h2] at h
      exact absurd h Bool.false_ne_true
    | some q2 =>
      obtain ⟨y, v⟩ := q2
      rw [h2] at h
      dsimp only at h
      simp only [Bool.and_eq_true] at h
      obtain ⟨⟨⟨⟨⟨⟨⟨⟨⟨e1, e2⟩, e3⟩, e4⟩, e5⟩, e6⟩, e7⟩, e8⟩, e9⟩, e10⟩ := h
      have f1 : x = y := Nat.eq_of_beq_eq_true e1
      have f2 : w = v := Nat.eq_of_beq_eq_true e2
      have f3 := Nat.le_of_ble_eq_true e3
      have f4 := Nat.le_of_ble_eq_true e4
      subst f1 f2
      exact ⟨x, w, rfl, h2, by omega, by omega, ⟨Nat.eq_of_beq_eq_true e5, Nat.eq_of_beq_eq_true e6, Nat.eq_of_beq_eq_true e7, Nat.eq_of_beq_eq_true e8, Nat.eq_of_beq_eq_true e9⟩, e10⟩
/-! bounds -/
theorem pg_land_lt {a b : Nat} (h : a < 256) : Nat.land a b < 256 := Nat.lt_of_le_of_lt Nat.and_le_left h
theorem pg_lor_lt {a b : Nat} (ha : a < 256) (hb : b < 256) : Nat.lor a b < 256 := Nat.or_lt_two_pow (n := 8) ha hb
theorem pg_pow : ∀ k, k < 8 → Nat.pow 2 k < 256 := by decide
theorem pg_f2_lt {o pl s k : Nat} {y e : Bool} (hk : k < 8) (hs : s < 256) : pg_f2 o pl y e s k < 256 := by
  have h : ∀ b : Bool, cond b (Nat.lor s (Nat.pow 2 k)) s < 256 := fun b => by
    cases b
    · exact hs
    · exact pg_lor_lt hs (pg_pow k hk)
  exact h _
theorem pg_f1_lt {ow mv : Nat → Nat} {pl am bf s k : Nat} (hk : k < 8) (hs : s < 256) : pg_f1 ow mv pl am bf k s < 256 := by
  have h : ∀ (b : Bool) (t : Nat), t < 256 → cond b t s < 256 := fun b t ht => by
    cases b
    · exact hs
    · exact ht
  exact h _ _ (pg_f2_lt hk hs)
theorem pg_fp_lt {ow mv : Nat → Nat} {pl am bf : Nat} : ∀ n k s, n + k ≤ 8 → s < 256 → pg_fp ow mv pl am bf n k s < 256 := by
  intro n
  induction n with
  | zero => intro k s _ hs; exact hs
  | succ n ih =>
    intro k s hk hs
    rw [pg_fp_s]
    exact ih (k + 1) _ (by omega) (pg_f1_lt (by omega) hs)
theorem pg_fo_lt {ow mv : Nat → Nat} {pl am : Nat} : ∀ n s b, s < 256 → pg_fo ow mv pl am n s b < 256 := by
  intro n
  induction n with
  | zero => intro s b hs; exact hs
  | succ n ih =>
    intro s b hs
    rw [pg_fo_s]
    cases Nat.beq s b
    · exact ih _ _ (pg_fp_lt 8 0 s (by omega) hs)
    · exact hs
theorem pg_w1_lt {c : Nat → Nat} {s q k m : Nat} (hk : k < 8) (hm : m < 256) : pg_w1 c s q k m < 256 := by
  unfold pg_w1
  cases pg_b s k
  · exact hm
  · cases Nat.beq (c k) q
    · exact hm
    · exact pg_lor_lt hm (pg_pow k hk)
theorem pg_wc_lt {c : Nat → Nat} {s q : Nat} : ∀ n k m, n + k ≤ 8 → m < 256 → pg_wc c s q n k m < 256 := by
  intro n
  induction n with
  | zero => intro k m _ hm; exact hm
  | succ n ih =>
    intro k m hk hm
    rw [pg_wc_s]
    exact ih (k + 1) _ (by omega) (pg_w1_lt (by omega) hm)
theorem pg_g1_lt {c : Nat → Nat} {s k m : Nat} (hc : c k < 6) (hm : m < 6) : pg_g1 c s k m < 6 := by
  unfold pg_g1
  cases pg_b s k
  · exact hm
  · cases Nat.ble (c k) m
    · exact hc
    · exact hm
theorem pg_gr_lt {c : Nat → Nat} {s : Nat} (hc : ∀ k, k < 8 → c k < 6) : ∀ n k m, n + k ≤ 8 → m < 6 → pg_gr c s n k m < 6 := by
  intro n
  induction n with
  | zero => intro k m _ hm; exact hm
  | succ n ih =>
    intro k m hk hm
    rw [pg_gr_s]
    exact ih (k + 1) _ (by omega) (pg_g1_lt (hc k (by omega)) hm)
theorem pg_pl_lt (c : Nat → Nat) (s : Nat) : pg_pl c s < 2 := Nat.mod_lt _ (by decide)
end
section
section
variable {of de : Int32} {a1 a2 a3 a4 a5 a6 a7 a8 : Nat → Int32}
/-- the state's game is the picture's: colours, owners, moves -/
def pg_G (of : Int32) (a1 a2 a3 : Nat → Int32) (c ow mv : Nat → Nat) : Prop :=
  (∀ k, k < 8 → a1 (nI k).toNatClampNeg = nI (c k) ∧ c k < 6) ∧
  (∀ k, k < 8 → ((of >>> (nI k &&& 31)) &&& 1) = nI (ow k) ∧ ow k < 2) ∧
  (∀ k, k < 8 → (((1 : Int32) <<< ((a2 (nI k).toNatClampNeg) &&& 31)) ||| ((1 : Int32) <<< ((a3 (nI k).toNatClampNeg) &&& 31))) = nI (mv k) ∧ mv k < 256)
/-! greatest -/
theorem pg_w4 {post : Int32 → Prop} {c : Nat → Nat} {s : Nat} (hs : s < 256) (hc : ∀ k, k < 8 → a1 (nI k).toNatClampNeg = nI (c k) ∧ c k < 6) :
    ∀ n k m, n + k = 8 → m < 6 → post (nI (pg_gr c s n k m)) → wX_greatest_4 post (nI s) of de a1 a2 a3 a4 a5 a6 a7 a8 (n + 1) (nI m) (nI k) := by
  intro n
  induction n with
  | zero =>
    intro k m hk hm hp
    have e : k = 8 := by omega
    subst e
    exact pk_le 8 8 (fun _ => hp) (fun z => absurd z (by omega))
  | succ n ih =>
    intro k m hk hm hp
    have h8 : k < 8 := by omega
    obtain ⟨e1, e2⟩ := hc k h8
    rw [pg_gr_s] at hp
    refine pk_le 8 k (fun z => absurd z (by omega)) (fun _ => pg_tb hs h8 (fun hb => ?_) (fun hb => ?_))
    · refine ⟨pk_in k 8 h8, pk_le (c k) m (fun h => nm_r (nI_1 k) (ih (k + 1) m (by omega) hm ?_)) (fun h => ⟨pk_in k 8 h8, nm_r e1 (nm_r (nI_1 k) (ih (k + 1) (c k) (by omega) e2 ?_))⟩) e1 rfl⟩
      · rw [pg_g1, hb, pg_ble h] at hp
        exact hp
      · rw [pg_g1, hb, pg_bgt h] at hp
        exact hp
    · refine nm_r (nI_1 k) (ih (k + 1) m (by omega) hm ?_)
      rw [pg_g1, hb] at hp
      exact hp
theorem pg_wgr {post : Int32 → Prop} {c ow mv : Nat → Nat} {s : Nat} (G : pg_G of a1 a2 a3 c ow mv) (hs : s < 256) (h : post (nI (pg_gr c s 8 0 0))) :
    wpX_greatest post (of, de, a1, a2, a3, a4, a5, a6, a7, a8) (nI s) :=
  ⟨9, pg_w4 hs G.1 8 0 0 (by omega) (by omega) h⟩
/-! withColour -/
theorem pg_w5 {post : Int32 → Prop} {c : Nat → Nat} {s q : Nat} (hs : s < 256) (hq : q < 6) (hc : ∀ k, k < 8 → a1 (nI k).toNatClampNeg = nI (c k) ∧ c k < 6) :
    ∀ n k m, n + k = 8 → post (nI (pg_wc c s q n k m)) → wX_withColour_5 post (nI s) (nI q) of de a1 a2 a3 a4 a5 a6 a7 a8 (n + 1) (nI m) (nI k) := by
  intro n
  induction n with
  | zero =>
    intro k m hk hp
    have e : k = 8 := by omega
    subst e
    exact pk_le 8 8 (fun _ => hp) (fun z => absurd z (by omega))
  | succ n ih =>
    intro k m hk hp
    have h8 : k < 8 := by omega
    obtain ⟨e1, e2⟩ := hc k h8
    rw [pg_wc_s] at hp
    refine pk_le 8 k (fun z => absurd z (by omega)) (fun _ => pg_tb hs h8 (fun hb => ?_) (fun hb => ?_))
    · refine ⟨pk_in k 8 h8, pk_eq (c k) q (fun h => nm_r (pg_or1 h8) (nm_r (nI_1 k) (ih (k + 1) _ (by omega) ?_))) (fun h => nm_r (nI_1 k) (ih (k + 1) m (by omega) ?_)) e1 rfl⟩
      · rw [pg_w1, hb, pg_beq h] at hp
        exact hp
      · rw [pg_w1, hb, pg_bne h] at hp
        exact hp
    · refine nm_r (nI_1 k) (ih (k + 1) m (by omega) ?_)
      rw [pg_w1, hb] at hp
      exact hp
theorem pg_wwc {post : Int32 → Prop} {c ow mv : Nat → Nat} {s q : Nat} (G : pg_G of a1 a2 a3 c ow mv) (hs : s < 256) (hq : q < 6) (h : post (nI (pg_wc c s q 8 0 0))) :
    wpX_withColour post (of, de, a1, a2, a3, a4, a5, a6, a7, a8) (nI s) (nI q) :=
  ⟨9, pg_w5 hs hq G.1 8 0 0 (by omega) h⟩
/-! forced -/
theorem pg_wown {P : Int32 → Prop} {x : Int32} (h : P ((of >>> (x &&& 31)) &&& 1)) : wpX_owner P (of, de, a1, a2, a3, a4, a5, a6, a7, a8) x := h
theorem pg_wmov {P : Int32 → Prop} {k m : Nat} (hk : k < 8) (hM : (((1 : Int32) <<< ((a2 (nI k).toNatClampNeg) &&& 31)) ||| ((1 : Int32) <<< ((a3 (nI k).toNatClampNeg) &&& 31))) = nI m) (h : P (nI m)) :
    wpX_moves P (of, de, a1, a2, a3, a4, a5, a6, a7, a8) (nI k) :=
  ⟨pk_in k 8 hk, pk_in k 8 hk, ek_v (P := P) hM h⟩
theorem pg_w104 {post : Int32 → Prop} {J9 : Int32 → Int32 → Int32 → Prop} {J30 : Int32 → Int32 → Prop} {x3 x5 x6 x10 : Int32} {o pl s k : Nat} {y e : Bool} (hk : k < 8) (hpl : pl < 2)
    (hO : ((of >>> (nI k &&& 31)) &&& 1) = nI o) (ho : o < 2) (h0 : x10 = 0 ↔ e = false) (hy : o = pl → y = false)
    (H : J30 (nI (pg_f2 o pl y e s k)) (nI (k + 1))) : wX_forced_104 post J9 J30 (nI pl) x3 (nI s) x5 x6 (nI k) x10 of de a1 a2 a3 a4 a5 a6 a7 a8 := by
  unfold wX_forced_104
  refine pg_wown (pk_eq o pl (fun z => nm_r (nI_1 k) ?_) (fun z => br_c (fun w => nm_r (nI_1 k) ?_) (fun w => ?_)) hO rfl)
  · rw [pg_f2, pg_beq z, hy z] at H
    exact H
  · rw [pg_f2, pg_bne z, h0.mp w] at H
    exact H
  · have e1 : e = true := by
      cases e with
      | false => exact absurd (h0.mpr rfl) w
      | true => rfl
    rw [pg_f2, pg_bne z, e1] at H
    exact nm_r (pg_or1 hk) (nm_r (nI_1 k) H)
theorem pg_w87 {post : Int32 → Prop} {J9 : Int32 → Int32 → Int32 → Prop} {J30 : Int32 → Int32 → Prop} {x3 x5 x6 x9 x10 : Int32} {o pl s k : Nat} {y e : Bool} (hk : k < 8) (hpl : pl < 2)
    (hO : ((of >>> (nI k &&& 31)) &&& 1) = nI o) (ho : o < 2) (h9 : x9 = 0 ↔ y = false) (h0 : x10 = 0 ↔ e = false)
    (H : J30 (nI (pg_f2 o pl y e s k)) (nI (k + 1))) : wX_forced_87 post J9 J30 (nI pl) x3 (nI s) x5 x6 (nI k) x9 x10 of de a1 a2 a3 a4 a5 a6 a7 a8 := by
  unfold wX_forced_87
  refine pg_wown (pk_eq o pl (fun z => br_c (fun w => pg_w104 hk hpl hO ho h0 (fun _ => h9.mp w) H) (fun w => ?_)) (fun z => pg_w104 hk hpl hO ho h0 (fun w => absurd w z) H) hO rfl)
  have e1 : y = true := by
    cases y with
    | false => exact absurd (h9.mpr rfl) w
    | true => rfl
  rw [pg_f2, pg_beq z, e1] at H
  exact nm_r (pg_or1 hk) (nm_r (nI_1 k) H)
theorem pg_w70 {post : Int32 → Prop} {J9 : Int32 → Int32 → Int32 → Prop} {J30 : Int32 → Int32 → Prop} {x3 x6 x9 : Int32} {o pl s k op bf : Nat} {y : Bool} (hk : k < 8) (hpl : pl < 2) (hop : op < 256)
    (hO : ((of >>> (nI k &&& 31)) &&& 1) = nI o) (ho : o < 2) (h9 : x9 = 0 ↔ y = false)
    (H : J30 (nI (pg_f2 o pl y (Nat.beq (Nat.land op (Nat.xor bf 4294967295)) 0) s k)) (nI (k + 1))) : wX_forced_70 post J9 J30 (nI pl) x3 (nI s) (nI bf) x6 (nI k) (nI op) x9 of de a1 a2 a3 a4 a5 a6 a7 a8 := by
  have hl : Nat.land op (Nat.xor bf 4294967295) < 256 := pg_land_lt hop
  unfold wX_forced_70
  refine pk_eq (Nat.land op (Nat.xor bf 4294967295)) 0 (fun z => pg_w87 (e := true) hk hpl hO ho h9 (by decide) ?_) (fun z => pg_w87 (e := false) hk hpl hO ho h9 (by decide) ?_) (pg_nand op bf) rfl (by omega) (by omega)
  · rw [pg_beq z] at H
    exact H
  · rw [pg_bne z] at H
    exact H
theorem pg_w30 {post : Int32 → Prop} {J9 : Int32 → Int32 → Int32 → Prop} {c ow mv : Nat → Nat} {pl am bf j : Nat} (G : pg_G of a1 a2 a3 c ow mv) (hpl : pl < 2) (ha : am < 256) (hbf : bf < 256) :
    ∀ n k s, n + k = 8 → J9 (nI (pg_fp ow mv pl am bf n k s)) (nI bf) (nI (j + 1)) → wX_forced_30 post J9 (nI pl) (nI am) (nI bf) (nI j) of de a1 a2 a3 a4 a5 a6 a7 a8 (n + 1) (nI s) (nI k) := by
  intro n
  induction n with
  | zero =>
    intro k s hk hp
    have e : k = 8 := by omega
    subst e
    exact pk_le 8 8 (fun _ => nm_r (nI_1 j) hp) (fun z => absurd z (by omega))
  | succ n ih =>
    intro k s hk hp
    have h8 : k < 8 := by omega
    rw [pg_fp_s] at hp
    have H := ih (k + 1) _ (by omega) hp
    obtain ⟨o1, o2⟩ := G.2.1 k h8
    obtain ⟨m1, m2⟩ := G.2.2 k h8
    have hop : Nat.land (mv k) am < 256 := pg_land_lt m2
    have hop2 : Nat.land (Nat.land (mv k) am) bf < 256 := pg_land_lt hop
    refine pk_le 8 k (fun z => absurd z (by omega)) (fun _ => pg_tb ha h8 (fun hb => ?_) (fun hb => ?_))
    · rw [pg_f1, hb, cond_true] at H
      refine pg_wmov h8 m1 (nm_r (pg_and (mv k) am) (pk_eq (Nat.land (Nat.land (mv k) am) bf) 0 (fun z => pg_w70 (y := false) h8 hpl hop o1 o2 (by decide) ?_) (fun z => pg_w70 (y := true) h8 hpl hop o1 o2 (by decide) ?_) (pg_and _ bf) rfl (by omega) (by omega)))
      · rw [pg_beq z] at H
        exact H
      · rw [pg_bne z] at H
        exact H
    · rw [pg_f1, hb] at H
      exact nm_r (nI_1 k) H
theorem pg_w9 {post : Int32 → Prop} {c ow mv : Nat → Nat} {pl am : Nat} (G : pg_G of a1 a2 a3 c ow mv) (hpl : pl < 2) (ha : am < 256) :
    ∀ n j s b, n + j = 9 → s < 256 → b < 256 → post (nI (pg_fo ow mv pl am n s b)) → wX_forced_9 post (nI pl) (nI am) of de a1 a2 a3 a4 a5 a6 a7 a8 (n + 1) (nI s) (nI b) (nI j) := by
  intro n
  induction n with
  | zero =>
    intro j s b hj hs hb hp
    have e : j = 9 := by omega
    subst e
    exact pk_lt 8 9 (fun _ => hp) (fun z => absurd z (by omega))
  | succ n ih =>
    intro j s b hj hs hb hp
    rw [pg_fo_s] at hp
    refine pk_lt 8 j (fun z => absurd z (by omega)) (fun _ => pk_eq s b (fun z => ?_) (fun z => ⟨9, ?_⟩))
    · rw [pg_beq z] at hp
      exact hp
    · rw [pg_bne z] at hp
      exact pg_w30 G hpl ha hs 8 0 s (by omega) (ih (j + 1) _ s (by omega) (pg_fp_lt 8 0 s (by omega) hs) hs hp)
theorem pg_wfo {post : Int32 → Prop} {c ow mv : Nat → Nat} {x y z : Int32} {pl am t : Nat} (G : pg_G of a1 a2 a3 c ow mv) (hpl : pl < 2) (ha : am < 256) (ht : t < 256) (hx : x = nI pl) (hy : y = nI t) (hz : z = nI am)
    (h : post (nI (pg_fo ow mv pl am 9 t 0))) : wpX_forced post (of, de, a1, a2, a3, a4, a5, a6, a7, a8) x y z := by
  subst hx hy hz
  exact ⟨10, pg_w9 G hpl ha 9 0 t 0 (by omega) ht (by omega) h⟩
end
end
section
section
variable {of de : Int32} {a1 a2 a3 a4 a5 a6 a7 a8 : Nat → Int32}
theorem pg_cl8 {t : Nat} (h : t < 12) : (nI t).toNatClampNeg = t := nI_clamp (by omega)
theorem pg_and1 {m : Nat} (h : m < 6) : nI m &&& 1 = nI (Nat.mod m 2) := pk_andN (by omega) 1 (by decide)
theorem pg_sub1 {q : Nat} (h : q < 2) : (1 : Int32) - nI q = nI (Nat.sub 1 q) := pk_sub (a := 1) (by omega)
theorem pg_wpush {post : St2 → Prop} {x : Int32} {d y : Nat} (hd : d < 12) (hx : x = nI y)
    (h : post (of, nI (d + 1), a1, a2, a3, upd a4 d (nI y), upd a5 d 0, a6, a7, a8)) : wpX_push post (of, nI d, a1, a2, a3, a4, a5, a6, a7, a8) x := by
  subst hx
  exact ⟨pk_in d 12 hd, nm_r (congrArg (fun j => upd a4 j (nI y)) (pg_cl8 hd)) ⟨pk_in d 12 hd, nm_r (congrArg (fun j => upd a5 j 0) (pg_cl8 hd)) (nm_r (nI_1 d) h)⟩⟩
theorem pg_wbegin {post : St2 → Prop} {c ow mv : Nat → Nat} {t s : Nat} (G : pg_G of a1 a2 a3 c ow mv) (ht : t < 11) (e4 : a4 t = nI s) (hs : s < 256)
    (H0 : s = 0 → post (of, nI t, a1, a2, a3, a4, a5, a6, upd (upd a7 0 0) 1 0, a8))
    (H1 : s ≠ 0 → post (of, nI (t + 1 + 1), a1, a2, a3, upd a4 (t + 1) (nI (pg_s0 c ow mv s)), upd (upd a5 t 1) (t + 1) 0, a6, a7, a8)) :
    wpX_begin post (of, nI (t + 1), a1, a2, a3, a4, a5, a6, a7, a8) (nI t) := by
  have e4' : a4 (nI t).toNatClampNeg = nI s := by
    rw [pg_cl8 (by omega)]
    exact e4
  have hg : pg_gr c s 8 0 0 < 6 := pg_gr_lt (fun k hk => (G.1 k hk).2) 8 0 0 (by omega) (by omega)
  have hw : pg_wc c s (pg_gr c s 8 0 0) 8 0 0 < 256 := pg_wc_lt 8 0 0 (by omega) (by omega)
  refine ⟨pk_in t 12 (by omega), nm_r e4' (pk_eq s 0 (fun z => nm_e (nm_e (nm_r (nI_pred t) (H0 z)))) (fun z => ?_))⟩
  refine pg_wgr G hs ?_
  refine pg_wwc G hs hg ?_
  refine pg_wfo G (pg_pl_lt c s) hs hw (pg_and1 hg) rfl rfl ?_
  refine ⟨pk_in t 12 (by omega), nm_r (congrArg (fun j => upd a5 j 1) (pg_cl8 (by omega))) ?_⟩
  exact pg_wpush (by omega) (pg_nand s _) (H1 z)
theorem pg_wgoOn {post : St2 → Prop} {c ow mv : Nat → Nat} {t s w0 w1 : Nat} (G : pg_G of a1 a2 a3 c ow mv) (ht : t < 11) (e4 : a4 t = nI s) (hs : s < 256) (h0 : w0 < 256) (h1 : w1 < 256) (e0 : a7 0 = nI w0) (e1 : a7 1 = nI w1)
    (H0 : pg_lo c s w0 w1 = 0 → post (of, nI t, a1, a2, a3, a4, a5, a6, upd a7 (pg_pl c s) (nI s), a8))
    (H1 : pg_lo c s w0 w1 ≠ 0 → post (of, nI (t + 1 + 1), a1, a2, a3, upd a4 (t + 1) (nI (Nat.land s (Nat.xor (pg_gv c ow mv s w0 w1) 4294967295))), upd (upd a5 t 2) (t + 1) 0, upd a6 t (nI (pg_gv c ow mv s w0 w1)), a7, a8)) :
    wpX_goOn post (of, nI (t + 1), a1, a2, a3, a4, a5, a6, a7, a8) (nI t) := by
  have e4' : a4 (nI t).toNatClampNeg = nI s := by
    rw [pg_cl8 (by omega)]
    exact e4
  have hg : pg_gr c s 8 0 0 < 6 := pg_gr_lt (fun k hk => (G.1 k hk).2) 8 0 0 (by omega) (by omega)
  have hp : pg_pl c s < 2 := pg_pl_lt c s
  have hq : Nat.sub 1 (pg_pl c s) < 2 := Nat.lt_of_le_of_lt (Nat.sub_le 1 _) (by decide)
  have hl : pg_lo c s w0 w1 < 256 := by
    unfold pg_lo
    cases Nat.beq (pg_pl c s) 0
    · exact h0
    · exact h1
  have e7 : a7 ((1 : Int32) - nI (pg_pl c s)).toNatClampNeg = nI (pg_lo c s w0 w1) := by
    rw [pg_sub1 hp, pg_cl8 (by omega)]
    unfold pg_lo
    rcases (by omega : pg_pl c s = 0 ∨ pg_pl c s = 1) with z | z
    · rw [z]
      exact e1
    · rw [z]
      exact e0
  refine ⟨pk_in t 12 (by omega), nm_r e4' (pg_wgr G hs (nm_r (pg_and1 hg) ⟨pk_in _ 2 hq (pg_sub1 hp), nm_r e7 (pk_eq (pg_lo c s w0 w1) 0 (fun z => ⟨pk_in (pg_pl c s) 2 hp, nm_r (congrArg (fun j => upd a7 j (nI s)) (pg_cl8 (t := pg_pl c s) (by omega))) (nm_r (nI_pred t) (H0 z))⟩) (fun z => ?_))⟩))⟩
  refine pg_wfo G hq hs hl (pg_sub1 hp) rfl rfl ?_
  refine ⟨pk_in t 12 (by omega), nm_r (congrArg (fun j => upd a6 j (nI (pg_gv c ow mv s w0 w1))) (pg_cl8 (by omega))) ⟨pk_in t 12 (by omega), nm_r (congrArg (fun j => upd a5 j 2) (pg_cl8 (by omega))) ?_⟩⟩
  exact pg_wpush (by omega) (pg_nand s _) (H1 z)
theorem pg_wfinish {post : St2 → Prop} {c ow mv : Nat → Nat} {t s v w0 w1 : Nat} (G : pg_G of a1 a2 a3 c ow mv) (ht : t < 11) (e4 : a4 t = nI s) (e6 : a6 t = nI v) (hs : s < 256) (e0 : a7 0 = nI w0) (e1 : a7 1 = nI w1)
    (H : post (of, nI t, a1, a2, a3, a4, a5, a6, upd a7 (Nat.sub 1 (pg_pl c s)) (nI (Nat.lor (pg_lo c s w0 w1) v)), a8)) :
    wpX_finish post (of, nI (t + 1), a1, a2, a3, a4, a5, a6, a7, a8) (nI t) := by
  have e4' : a4 (nI t).toNatClampNeg = nI s := by
    rw [pg_cl8 (by omega)]
    exact e4
  have e6' : a6 (nI t).toNatClampNeg = nI v := by
    rw [pg_cl8 (by omega)]
    exact e6
  have hg : pg_gr c s 8 0 0 < 6 := pg_gr_lt (fun k hk => (G.1 k hk).2) 8 0 0 (by omega) (by omega)
  have hp : pg_pl c s < 2 := pg_pl_lt c s
  have hq : Nat.sub 1 (pg_pl c s) < 2 := Nat.lt_of_le_of_lt (Nat.sub_le 1 _) (by decide)
  have e7 : a7 (Nat.sub 1 (pg_pl c s)) = nI (pg_lo c s w0 w1) := by
    unfold pg_lo
    rcases (by omega : pg_pl c s = 0 ∨ pg_pl c s = 1) with z | z
    · rw [z]
      exact e1
    · rw [z]
      exact e0
  have ec : ((1 : Int32) - nI (pg_pl c s)).toNatClampNeg = Nat.sub 1 (pg_pl c s) := by
    rw [pg_sub1 hp, pg_cl8 (by omega)]
  have eu : upd a7 ((1 : Int32) - nI (pg_pl c s)).toNatClampNeg (a7 ((1 : Int32) - nI (pg_pl c s)).toNatClampNeg ||| a6 (nI t).toNatClampNeg) = upd a7 (Nat.sub 1 (pg_pl c s)) (nI (Nat.lor (pg_lo c s w0 w1) v)) := by
    rw [ec, e7, e6', pg_or]
  unfold wpX_finish
  dsimp only
  rw [e4']
  exact ⟨pk_in t 12 (by omega), pg_wgr G hs (nm_r (pg_and1 hg) ⟨pk_in _ 2 hq (pg_sub1 hp), pk_in t 12 (by omega), pk_in _ 2 hq (pg_sub1 hp), nm_r eu (nm_r (nI_pred t) H)⟩)⟩
/-- the arrays hold the stack -/
def pg_ok (a4 a5 a6 : Nat → Int32) : List (Nat × Nat × Nat) → Prop
  | [] => True
  | e :: r => (a4 r.length = nI e.1 ∧ a5 r.length = nI e.2.1 ∧ (e.2.1 = 2 → a6 r.length = nI e.2.2) ∧ e.1 < 256 ∧ e.2.1 < 3 ∧ e.2.2 < 256) ∧ pg_ok a4 a5 a6 r
theorem pg_ok_c {b4 b5 b6 : Nat → Int32} : ∀ st : List (Nat × Nat × Nat), (∀ j, j < st.length → b4 j = a4 j ∧ b5 j = a5 j ∧ b6 j = a6 j) → pg_ok a4 a5 a6 st → pg_ok b4 b5 b6 st := by
  intro st
  induction st with
  | nil => intro _ _; trivial
  | cons e r ih =>
    intro h hk
    obtain ⟨⟨h1, h2, h3, h4, h5, h6⟩, hr⟩ := hk
    obtain ⟨q1, q2, q3⟩ := h r.length (Nat.lt_succ_self _)
    exact ⟨⟨q1.trans h1, q2.trans h2, fun z => q3.trans (h3 z), h4, h5, h6⟩, ih (fun j hj => h j (Nat.lt_succ_of_lt hj)) hr⟩
/-- a level more on top -/
theorem pg_ok_p {s g v y : Nat} {r : List (Nat × Nat × Nat)} {b6 : Nat → Int32} (hr : pg_ok a4 a5 a6 r) (e4 : a4 r.length = nI s) (hs : s < 256) (hy : y < 256) (hg : g < 3) (hv : v < 256)
    (h6 : ∀ j, j < r.length → b6 j = a6 j) (h6' : g = 2 → b6 r.length = nI v) :
    pg_ok (upd a4 (r.length + 1) (nI y)) (upd (upd a5 r.length (nI g)) (r.length + 1) 0) b6 ((y, 0, 0) :: (s, g, v) :: r) := by
  refine ⟨⟨pk_us, pk_us, fun z => absurd z (show ¬ (0 : Nat) = 2 by decide), hy, (by decide : (0 : Nat) < 3), (by decide : (0 : Nat) < 256)⟩, ⟨(pk_un (by omega)).trans e4, (pk_un (by omega)).trans pk_us, h6', hs, hg, hv⟩, ?_⟩
  exact pg_ok_c r (fun j hj => ⟨pk_un (by omega), (pk_un (by omega)).trans (pk_un (by omega)), h6 j hj⟩) hr
theorem pg_w14 {post : St2 → Prop} {c ow mv : Nat → Nat} {W0 W1 : Nat} (G : pg_G of a1 a2 a3 c ow mv)
    (H : ∀ (de : Int32) (a4 a5 a6 a7 : Nat → Int32), a7 0 = nI W0 → a7 1 = nI W1 → post (of, de, a1, a2, a3, a4, a5, a6, a7, a8)) :
    ∀ (n x : Nat) (st : List (Nat × Nat × Nat)) (w0 w1 : Nat) (a4 a5 a6 a7 : Nat → Int32), n + x ≤ 1999 → w0 < 256 → w1 < 256 → a7 0 = nI w0 → a7 1 = nI w1 → pg_ok a4 a5 a6 st → pg_run c ow mv n st w0 w1 = some (W0, W1) →
      wX_solve_14 post (n + 1) (nI x) of (nI st.length) a1 a2 a3 a4 a5 a6 a7 a8 := by
  have nil : ∀ (n x w0 w1 : Nat) (a4 a5 a6 a7 : Nat → Int32), x ≤ 1999 → a7 0 = nI w0 → a7 1 = nI w1 → some (w0, w1) = some (W0, W1) → wX_solve_14 post (n + 1) (nI x) of (nI 0) a1 a2 a3 a4 a5 a6 a7 a8 := by
    intro n x w0 w1 a4 a5 a6 a7 hx e0 e1 hr
    injection hr with hr
    injection hr with r0 r1
    subst r0 r1
    exact pk_le 2000 x (fun z => absurd z (by omega)) (fun _ => pk_le 0 0 (fun _ => H _ _ _ _ _ e0 e1) (fun z => absurd z (by omega)))
  intro n
  induction n with
  | zero =>
    intro x st w0 w1 a4 a5 a6 a7 hx h0 h1 e0 e1 hk hr
    cases st with
    | nil => exact nil 0 x w0 w1 a4 a5 a6 a7 (by omega) e0 e1 hr
    | cons e r => exact absurd hr (fun z => nomatch z)
  | succ n ih =>
    intro x st w0 w1 a4 a5 a6 a7 hx h0 h1 e0 e1 hk hr
    cases st with
    | nil => exact nil (n + 1) x w0 w1 a4 a5 a6 a7 (by omega) e0 e1 hr
    | cons e r =>
      obtain ⟨s, g, v⟩ := e
      obtain ⟨⟨k4, k5, k6, hs, hg, hv⟩, hk⟩ := hk
      dsimp only at k4 k5 k6 hs hg hv
      have hr' : pg_st c ow mv s g v r w0 w1 (fun t x y => pg_run c ow mv n t x y) = some (W0, W1) := hr
      simp only [pg_st, pg_fc_e] at hr'
      have hl : Nat.ble 11 r.length = false := by
        cases e : Nat.ble 11 r.length with
        | false => rfl
        | true =>
          rw [e] at hr'
          exact absurd hr' (fun z => nomatch z)
      have ht : r.length < 11 := by
        rcases Nat.lt_or_ge r.length 11 with z | z
        · exact z
        · rw [pg_ble z] at hl
          exact absurd hl (by decide)
      rw [hl, cond_false] at hr'
      have h5 : a5 (nI r.length).toNatClampNeg = nI g := by
        rw [pg_cl8 (by omega)]
        exact k5
      refine pk_le 2000 x (fun z => absurd z (by omega)) (fun _ => pk_le (r.length + 1) 0 (fun z => absurd z (by omega)) (fun _ => nm_r (nI_pred r.length) ⟨pk_in r.length 12 (by omega), pk_eq g 0 (fun z => ?_) (fun z => ⟨pk_in r.length 12 (by omega), pk_eq g 1 (fun z1 => ?_) (fun z1 => ?_) h5 rfl⟩) h5 rfl⟩))
      · rw [pg_beq z, cond_true] at hr'
        refine pg_wbegin G ht k4 hs (fun y => nm_r (nI_1 x) ?_) (fun y => nm_r (nI_1 x) ?_)
        · rw [pg_beq y, cond_true] at hr'
          exact ih (x + 1) r 0 0 _ _ _ _ (by omega) (by omega) (by omega) ((pk_un (by decide)).trans pk_us) pk_us hk hr'
        · rw [pg_bne y, cond_false] at hr'
          exact ih (x + 1) _ w0 w1 _ _ _ _ (by omega) h0 h1 e0 e1 (pg_ok_p (g := 1) (v := 0) hk k4 hs (pg_land_lt hs) (by decide) (by decide) (fun j _ => rfl) (fun z => absurd z (by decide))) hr'
      · rw [pg_bne z, cond_false, pg_beq z1, cond_true] at hr'
        have hp : pg_pl c s < 2 := pg_pl_lt c s
        refine pg_wgoOn G ht k4 hs h0 h1 e0 e1 (fun y => nm_r (nI_1 x) ?_) (fun y => nm_r (nI_1 x) ?_)
        · rw [pg_beq y, cond_true] at hr'
          rcases (by omega : pg_pl c s = 0 ∨ pg_pl c s = 1) with q | q
          · rw [q] at hr' ⊢
            exact ih (x + 1) r s w1 _ _ _ _ (by omega) hs h1 pk_us ((pk_un (by decide)).trans e1) hk hr'
          · rw [q] at hr' ⊢
            exact ih (x + 1) r w0 s _ _ _ _ (by omega) h0 hs ((pk_un (by decide)).trans e0) pk_us hk hr'
        · rw [pg_bne y, cond_false] at hr'
          have hl : pg_lo c s w0 w1 < 256 := by
            unfold pg_lo
            cases Nat.beq (pg_pl c s) 0
            · exact h0
            · exact h1
          exact ih (x + 1) _ w0 w1 _ _ _ _ (by omega) h0 h1 e0 e1 (pg_ok_p (g := 2) (v := pg_gv c ow mv s w0 w1) hk k4 hs (pg_land_lt hs) (by decide) (pg_fo_lt 9 _ 0 hl) (fun j hj => pk_un (by omega)) (fun _ => pk_us)) hr'
      · rw [pg_bne z, cond_false, pg_bne z1, cond_false] at hr'
        have hp : pg_pl c s < 2 := pg_pl_lt c s
        refine pg_wfinish G ht k4 (k6 (by omega)) hs e0 e1 (nm_r (nI_1 x) ?_)
        unfold pg_lo
        rcases (by omega : pg_pl c s = 0 ∨ pg_pl c s = 1) with q | q
        · rw [q] at hr' ⊢
          exact ih (x + 1) r w0 (Nat.lor w1 v) _ _ _ _ (by omega) h0 (pg_lor_lt h1 hv) ((pk_un (by decide)).trans e0) pk_us hk hr'
        · rw [q] at hr' ⊢
          exact ih (x + 1) r (Nat.lor w0 v) w1 _ _ _ _ (by omega) (pg_lor_lt h0 hv) h1 pk_us ((pk_un (by decide)).trans e1) hk hr'
end
end
section
section
variable {of de : Int32} {a1 a2 a3 a4 a5 a6 a7 a8 : Nat → Int32}
theorem pg_wbad {P : Int32 → Prop} {i : Nat} (hi : i < 8) (h : P 0) : wpX_bad P () (nI i) :=
  pk_lt i 0 (fun z => absurd z (by omega)) (fun _ => pk_lt i 8 (fun _ => h) (fun z => absurd z (by omega)))
theorem pg_wwin {post : Int32 → St2 → Prop} {c ow mv : Nat → Nat} {i w0 w1 W0 W1 : Nat} (G : pg_G of a1 a2 a3 c ow mv) (hi : i < 8) (h0 : w0 < 256) (h1 : w1 < 256) (h2 : W1 < 256) (e0 : a7 0 = nI w0) (e1 : a7 1 = nI w1)
    (hr : pg_run c ow mv 40 [(255, 0, 0)] w0 w1 = some (W0, W1))
    (H : ∀ (de : Int32) (a4 a5 a6 a7 : Nat → Int32), a7 0 = nI W0 → a7 1 = nI W1 → post (nI (W1 / 2 ^ i % 2)) (of, de, a1, a2, a3, a4, a5, a6, a7, a8)) :
    wpX_winner post (of, de, a1, a2, a3, a4, a5, a6, a7, a8) (nI i) := by
  unfold wpX_winner
  dsimp only
  refine pg_wbad hi (br_t rfl ?_)
  unfold wpX_solve
  dsimp only
  refine pg_wpush (d := 0) (y := 255) (by decide) rfl ?_
  refine ⟨41, pg_w14 G ?_ 40 0 [(255, 0, 0)] w0 w1 (upd a4 0 (nI 255)) (upd a5 0 0) a6 a7 (by decide) h0 h1 e0 e1 ⟨⟨pk_us, pk_us, fun z => absurd z (by decide), by decide, by decide, by decide⟩, trivial⟩ hr⟩
  intro de' b4 b5 b6 b7 f0 f1
  have t := H de' b4 b5 b6 b7 f0 f1
  rw [← pg_bi h2 hi, ← f1] at t
  exact t
theorem pg_wcan {post : Int32 → Prop} {c ow mv : Nat → Nat} (G : pg_G of a1 a2 a3 c ow mv) (hb : pg_b (pg_fo ow mv 0 255 9 2 0) 0 = true) (H : post 1) :
    wpX_canForce post (of, de, a1, a2, a3, a4, a5, a6, a7, a8) 0 1 := by
  unfold wpX_canForce
  dsimp only
  refine pg_wbad (i := 0) (by decide) (br_t rfl ?_)
  refine pg_wbad (i := 1) (by decide) (br_t rfl ?_)
  refine pg_wfo G (pl := 0) (am := 255) (t := 2) (by decide) (by decide) (by decide) rfl (by decide) rfl ?_
  exact pg_tb (k := 0) (pg_fo_lt 9 2 0 (by decide)) (by decide) (fun _ => H) (fun z => absurd (hb.symm.trans z) (by decide))
theorem pg_wset {post : Int32 → St2 → Prop} {i q cl : Nat} {m : Int32} (hi : i < 8) (hq : q < 2) (hc : cl < 6)
    (H : post 0 ((of &&& (((1 : Int32) <<< (nI i &&& 31)) ^^^ (-1))) ||| (nI q <<< (nI i &&& 31)), de, upd a1 i (nI cl), upd a2 i (m &&& 7), upd a3 i ((m >>> ((3 : Int32) &&& 31)) &&& 7), a4, a5, a6, a7, a8)) :
    wpX_set post (of, de, a1, a2, a3, a4, a5, a6, a7, a8) (nI i) (nI q) (nI cl) m := by
  unfold wpX_set
  dsimp only
  refine pg_wbad hi (br_t rfl ?_)
  refine pk_lt q 0 (fun z => absurd z (by omega)) (fun _ => pk_le q 1 (fun _ => pk_lt cl 0 (fun z => absurd z (by omega)) (fun _ => pk_le cl 5 (fun _ => nm_e ?_) (fun z => absurd z (by omega)))) (fun z => absurd z (by omega)))
  exact ⟨pk_in i 8 hi, nm_r (congrArg (fun j => upd a1 j (nI cl)) (pg_cl8 (by omega))) ⟨pk_in i 8 hi, nm_r (congrArg (fun j => upd a2 j (m &&& 7)) (pg_cl8 (by omega))) ⟨pk_in i 8 hi, nm_r (congrArg (fun j => upd a3 j ((m >>> ((3 : Int32) &&& 31)) &&& 7)) (pg_cl8 (by omega))) H⟩⟩⟩
theorem pg_wpaint {post : Int32 → St2 → Prop} {i cl : Nat} (hi : i < 8) (hc : cl < 6)
    (H : ∀ r, post r (of, de, upd a1 i (nI cl), a2, a3, a4, a5, a6, a7, a8)) :
    wpX_paint post (of, de, a1, a2, a3, a4, a5, a6, a7, a8) (nI i) (nI cl) := by
  unfold wpX_paint
  dsimp only
  refine pg_wbad hi (br_t rfl ?_)
  refine pk_lt cl 0 (fun z => absurd z (by omega)) (fun _ => pk_le cl 5 (fun _ => ?_) (fun z => absurd z (by omega)))
  exact ⟨pk_in i 8 hi, nm_e ⟨pk_in i 8 hi, nm_r (congrArg (fun j => upd a1 j (nI cl)) (pg_cl8 (by omega))) (H _)⟩⟩
theorem pg_w69 {post : St2 → Prop} {mc ms kc ks : Nat}
    (H : ∀ f g : Nat → Int32, (∀ j, j < 8 → f j = nI j) → (∀ j, j < 8 → g j = nI j) → post (of, de, a1, f, g, a4, a5, a6, a7, a8)) :
    ∀ (n k : Nat) (f g : Nat → Int32), n + k = 8 → (∀ j, j < k → f j = nI j) → (∀ j, j < k → g j = nI j) → wX_init_69 post mc ms kc ks of de (n + 1) (nI k) a1 f g a4 a5 a6 a7 a8 := by
  have st : ∀ (k : Nat) (f : Nat → Int32), k < 8 → (∀ j, j < k → f j = nI j) → ∀ j, j < k + 1 → upd f (nI k).toNatClampNeg (nI k) j = nI j := by
    intro k f hk h j hj
    rw [pg_cl8 (by omega)]
    by_cases e : j = k
    · rw [e, pk_us]
    · rw [pk_un e]
      exact h j (by omega)
  intro n
  induction n with
  | zero =>
    intro k f g hk hf hg
    have e : k = 8 := by omega
    subst e
    exact pk_le 8 8 (fun _ => H f g hf hg) (fun z => absurd z (by omega))
  | succ n ih =>
    intro k f g hk hf hg
    exact pk_le 8 k (fun z => absurd z (by omega)) (fun _ => ⟨pk_in k 8 (by omega), nm_e ⟨pk_in k 8 (by omega), nm_e (nm_r (nI_1 k) (ih (k + 1) _ _ (by omega) (st k f (by omega) hf) (st k g (by omega) hg)))⟩⟩)
/-- all answers -/
theorem pg_w179 {mc ms kc ks p a b d : Nat} (G : pg_G of a1 a2 a3 (pg_C a b d) (pg_O p) pg_M) (hc : pg_chk p a b d = true) (e0 : a7 0 = 0) (e1 : a7 1 = 0) :
    wL_lawOf_179 (fun r _ => r = 1) mc ms (nI (a % 2)) (nI (pg_two (a % 2) (pg_mx b d % 2))) (nI (pg_zero p (a % 2) (pg_two (a % 2) (pg_mx b d % 2)))) kc ks of de a1 a2 a3 a4 a5 a6 a7 a8 := by
  obtain ⟨x, w, r1, r2, hx, hw, ⟨q1, q2, q3, q0, q7⟩, hf⟩ := pg_chk_e hc
  unfold wL_lawOf_179
  refine pg_wwin (i := 1) G (by decide) (w0 := 0) (w1 := 0) (by decide) (by decide) hw e0 e1 r1 (fun _ _ _ _ _ f0 f1 => br_t (congrArg nI q1) ?_)
  refine pg_wwin (i := 2) G (by decide) hx hw hw f0 f1 r2 (fun _ _ _ _ _ f0 f1 => br_t (congrArg nI q2) ?_)
  refine pg_wwin (i := 3) G (by decide) hx hw hw f0 f1 r2 (fun _ _ _ _ _ f0 f1 => br_t (congrArg nI q3) ?_)
  refine pg_wwin (i := 0) G (by decide) hx hw hw f0 f1 r2 (fun _ _ _ _ _ f0 f1 => br_t (congrArg nI q0) ?_)
  refine pg_wcan G hf (br_f (by decide) ?_)
  exact pg_wwin (i := 7) G (by decide) hx hw hw f0 f1 r2 (fun _ _ _ _ _ f0 f1 => br_t (congrArg nI q7) rfl)
theorem pg_two_lt (x y : Nat) : pg_two x y < 2 := by
  unfold pg_two
  cases Nat.beq x 0 <;> cases Nat.beq y 0 <;> decide
theorem pg_w137 {post : Int32 → St0 → Prop} {mc ms kc ks p x z : Nat} (hp : p < 2) (hx : x < 2) (hz : z < 2)
    (H : wL_lawOf_179 post mc ms (nI x) (nI z) (nI (pg_zero p x z)) kc ks of de a1 a2 a3 a4 a5 a6 a7 a8) : wL_lawOf_137 post mc ms (nI p) (nI x) (nI z) kc ks of de a1 a2 a3 a4 a5 a6 a7 a8 := by
  unfold pg_zero at H
  unfold wL_lawOf_137
  refine pk_eq p 0 (fun e => pk_eq x 0 (fun f => ?_) (fun f => pk_eq z 0 (fun g => ?_) (fun g => ?_))) (fun e => pk_eq x 1 (fun f => ?_) (fun f => pk_eq z 1 (fun g => ?_) (fun g => ?_)))
  · rw [pg_beq e, cond_true, pg_beq f, cond_true] at H
    exact H
  · rw [pg_beq e, cond_true, pg_bne f, cond_false, pg_beq g, cond_true] at H
    exact H
  · rw [pg_beq e, cond_true, pg_bne f, cond_false, pg_bne g, cond_false] at H
    exact H
  · rw [pg_bne e, cond_false, pg_beq f, cond_true] at H
    exact H
  · rw [pg_bne e, cond_false, pg_bne f, cond_false, pg_beq g, cond_true] at H
    exact H
  · rw [pg_bne e, cond_false, pg_bne f, cond_false, pg_bne g, cond_false] at H
    exact H
theorem pg_w112 {post : Int32 → St0 → Prop} {mc ms kc ks p a z : Nat} (hp : p < 2) (ha : a < 6) (hz : z < 6)
    (H : wL_lawOf_179 post mc ms (nI (a % 2)) (nI (pg_two (a % 2) (z % 2))) (nI (pg_zero p (a % 2) (pg_two (a % 2) (z % 2)))) kc ks of de a1 a2 a3 a4 a5 a6 a7 a8) : wL_lawOf_112 post mc ms (nI a) (nI p) (nI z) kc ks of de a1 a2 a3 a4 a5 a6 a7 a8 := by
  have H2 := pg_w137 hp (by omega) (pg_two_lt _ _) H
  unfold pg_two at H2
  have hr : ∀ q, q < 6 → nI q - nI q / 2 * 2 = nI (q % 2) := fun q hq => pk_rem (by omega) (d := 2) (by decide) (by decide)
  unfold wL_lawOf_112
  refine ⟨by decide, nm_r (hr z hz) ⟨by decide, nm_r (hr a ha) (pk_eq (a % 2) 0 (fun e => ?_) (fun e => pk_eq (z % 2) 0 (fun f => ?_) (fun f => ?_)))⟩⟩
  · rw [pg_beq e, cond_true] at H2
    exact H2
  · rw [pg_bne e, cond_false, pg_beq f, cond_true] at H2
    exact H2
  · rw [pg_bne e, cond_false, pg_bne f, cond_false] at H2
    exact H2
end
/-! the game that the law makes -/
def pg_of (p : Int32) : Int32 := ((((((((0 : Int32) &&& (((1 : Int32) <<< (nI 0 &&& 31)) ^^^ (-1))) ||| (p <<< (nI 0 &&& 31))) &&& (((1 : Int32) <<< (nI 1 &&& 31)) ^^^ (-1))) ||| (nI 1 <<< (nI 1 &&& 31))) &&& (((1 : Int32) <<< (nI 2 &&& 31)) ^^^ (-1))) ||| (nI 0 <<< (nI 2 &&& 31))) &&& (((1 : Int32) <<< (nI 3 &&& 31)) ^^^ (-1))) ||| (nI 1 <<< (nI 3 &&& 31))
theorem pg_of_ok : ∀ p, p < 2 → ∀ k, k < 8 → ((pg_of (nI p) >>> (nI k &&& 31)) &&& 1) = nI (pg_O p k) ∧ pg_O p k < 2 := by decide +kernel
theorem pg_8 {P : Nat → Prop} (h0 : P 0) (h1 : P 1) (h2 : P 2) (h3 : P 3) (h4 : P 4) (h5 : P 5) (h6 : P 6) (h7 : P 7) : ∀ k, k < 8 → P k := by
  intro k hk
  match k, hk with
  | 0, _ => exact h0
  | 1, _ => exact h1
  | 2, _ => exact h2
  | 3, _ => exact h3
  | 4, _ => exact h4
  | 5, _ => exact h5
  | 6, _ => exact h6
  | 7, _ => exact h7
  | k + 8, h => exact absurd h (by omega)
def pg_cc (a b d : Nat) : Nat → Int32 := upd (upd (upd (upd (upd (fun _ => 0) 0 (nI 0)) 1 (nI a)) 2 (nI b)) 3 (nI d)) 1 (nI a)
def pg_ff (f : Nat → Int32) : Nat → Int32 := upd (upd (upd (upd f 0 (17 &&& 7)) 1 (9 &&& 7)) 2 (25 &&& 7)) 3 (18 &&& 7)
def pg_gg (f : Nat → Int32) : Nat → Int32 := upd (upd (upd (upd f 0 ((17 >>> ((3 : Int32) &&& 31)) &&& 7)) 1 ((9 >>> ((3 : Int32) &&& 31)) &&& 7)) 2 ((25 >>> ((3 : Int32) &&& 31)) &&& 7)) 3 ((18 >>> ((3 : Int32) &&& 31)) &&& 7)
theorem pg_cc_ok {a b d : Nat} (ha : a < 6) (hb : b < 6) (hd : d < 6) : ∀ k, k < 8 → pg_cc a b d (nI k).toNatClampNeg = nI (pg_C a b d k) ∧ pg_C a b d k < 6 := by
  intro k hk
  rw [pg_cl8 (by omega)]
  exact pg_8 (P := fun k => pg_cc a b d k = nI (pg_C a b d k) ∧ pg_C a b d k < 6) ⟨rfl, (by decide : 0 < 6)⟩ ⟨rfl, ha⟩ ⟨rfl, hb⟩ ⟨rfl, hd⟩ ⟨rfl, (by decide : 0 < 6)⟩ ⟨rfl, (by decide : 0 < 6)⟩ ⟨rfl, (by decide : 0 < 6)⟩ ⟨rfl, (by decide : 0 < 6)⟩ k hk
theorem pg_fg_ok {f g : Nat → Int32} (hf : ∀ j, j < 8 → f j = nI j) (hg : ∀ j, j < 8 → g j = nI j) : ∀ k, k < 8 → (((1 : Int32) <<< ((pg_ff f (nI k).toNatClampNeg) &&& 31)) ||| ((1 : Int32) <<< ((pg_gg g (nI k).toNatClampNeg) &&& 31))) = nI (pg_M k) ∧ pg_M k < 256 := by
  intro k hk
  rw [pg_cl8 (by omega)]
  have hi : ∀ j, 4 ≤ j → j < 8 → pg_ff f j = nI j ∧ pg_gg g j = nI j := fun j h1 h2 =>
    ⟨(pk_un (by omega)).trans ((pk_un (by omega)).trans ((pk_un (by omega)).trans ((pk_un (by omega)).trans (hf j h2)))), (pk_un (by omega)).trans ((pk_un (by omega)).trans ((pk_un (by omega)).trans ((pk_un (by omega)).trans (hg j h2))))⟩
  have up : ∀ j, 4 ≤ j → j < 8 → ((1 : Int32) <<< (nI j &&& 31)) ||| ((1 : Int32) <<< (nI j &&& 31)) = nI (pg_M j) ∧ pg_M j < 256 := by
    intro j h1 h2
    exact pg_8 (P := fun j => 4 ≤ j → ((1 : Int32) <<< (nI j &&& 31)) ||| ((1 : Int32) <<< (nI j &&& 31)) = nI (pg_M j) ∧ pg_M j < 256) (fun z => absurd z (by decide)) (fun z => absurd z (by decide)) (fun z => absurd z (by decide)) (fun z => absurd z (by decide)) (fun _ => by decide) (fun _ => by decide) (fun _ => by decide) (fun _ => by decide) j h2 h1
  have hu : ∀ j, 4 ≤ j → j < 8 → (((1 : Int32) <<< ((pg_ff f j) &&& 31)) ||| ((1 : Int32) <<< ((pg_gg g j) &&& 31))) = nI (pg_M j) ∧ pg_M j < 256 := by
    intro j h1 h2
    rw [(hi j h1 h2).1, (hi j h1 h2).2]
    exact up j h1 h2
  refine pg_8 (P := fun k => (((1 : Int32) <<< ((pg_ff f k) &&& 31)) ||| ((1 : Int32) <<< ((pg_gg g k) &&& 31))) = nI (pg_M k) ∧ pg_M k < 256) ?_ ?_ ?_ ?_ (hu 4 (by decide) (by decide)) (hu 5 (by decide) (by decide)) (hu 6 (by decide) (by decide)) (hu 7 (by decide) (by decide)) k hk
  · show (((1 : Int32) <<< (((17 : Int32) &&& 7) &&& 31)) ||| ((1 : Int32) <<< ((((17 : Int32) >>> ((3 : Int32) &&& 31)) &&& 7) &&& 31))) = nI 6 ∧ 6 < 256
    decide
  · show (((1 : Int32) <<< (((9 : Int32) &&& 7) &&& 31)) ||| ((1 : Int32) <<< ((((9 : Int32) >>> ((3 : Int32) &&& 31)) &&& 7) &&& 31))) = nI 2 ∧ 2 < 256
    decide
  · show (((1 : Int32) <<< (((25 : Int32) &&& 7) &&& 31)) ||| ((1 : Int32) <<< ((((25 : Int32) >>> ((3 : Int32) &&& 31)) &&& 7) &&& 31))) = nI 10 ∧ 10 < 256
    decide
  · show (((1 : Int32) <<< (((18 : Int32) &&& 7) &&& 31)) ||| ((1 : Int32) <<< ((((18 : Int32) >>> ((3 : Int32) &&& 31)) &&& 7) &&& 31))) = nI 4 ∧ 4 < 256
    decide
theorem pg_six (x : Int32) : ∃ a, a < 6 ∧ (x &&& 2147483647) - (x &&& 2147483647) / 6 * 6 = nI a := by
  have h : x &&& 2147483647 = nI (x.toBitVec.toNat % 2 ^ 31) := pk_and x 31 (by decide)
  refine ⟨x.toBitVec.toNat % 2 ^ 31 % 6, Nat.mod_lt _ (by decide), ?_⟩
  rw [h]
  exact pk_rem (Nat.mod_lt _ (by decide)) (d := 6) (by decide) (by decide)
end
section
theorem pg_lawOf (p0 p1 p2 p3 : Int32) : wpL_lawOf (fun r _ => r = 1) 58 928 () p0 p1 p2 p3 := by
  obtain ⟨a, ha, ea⟩ := pg_six p0
  obtain ⟨b, hb, eb⟩ := pg_six p1
  obtain ⟨d, hd, ed⟩ := pg_six p3
  obtain ⟨p, hp, ep⟩ := pk_andE p2 (m := 1) 1 (by decide)
  unfold wpL_lawOf
  refine ⟨by omega, by omega, 8, 70, by omega, by omega, ?_⟩
  refine ⟨by omega, by omega, by omega, by omega, by omega, by omega, by omega, by omega, by omega, by omega, by omega, by omega, by omega, by omega, by omega, by omega, 9, pg_w69 ?_ 8 0 _ _ (by omega) (fun j hj => absurd hj (by omega)) (fun j hj => absurd hj (by omega))⟩
  intro f g hf hg
  refine ⟨by decide, nm_r ea ⟨by decide, nm_r eb ⟨by decide, nm_r ed (nm_r ep ?_)⟩⟩⟩
  have G : pg_G (pg_of (nI p)) (pg_cc a b d) (pg_ff f) (pg_gg g) (pg_C a b d) (pg_O p) pg_M := ⟨pg_cc_ok ha hb hd, pg_of_ok p hp, pg_fg_ok hf hg⟩
  have hk := pg_all p hp a ha b hb d hd
  refine pg_wset (i := 0) (cl := 0) (by decide) hp (by decide) ?_
  refine pg_wset (i := 1) (q := 1) (by decide) (by decide) ha ?_
  refine pg_wset (i := 2) (q := 0) (by decide) (by decide) hb ?_
  refine pg_wset (i := 3) (q := 1) (by decide) (by decide) hd ?_
  refine pg_wpaint (i := 1) (by decide) ha (fun r => ?_)
  refine pk_le b d (fun z => pg_w112 hp ha hd ?_) (fun z => pg_w112 hp ha hb ?_)
  · have t : pg_mx b d = d := by rw [pg_mx, pg_ble z, cond_true]
    have u := pg_w179 (mc := 58) (ms := 928) (kc := 1 + 8) (ks := 10 + 70) (de := 0) (a4 := fun _ => 0) (a5 := fun _ => 0) (a6 := fun _ => 0) (a7 := fun _ => 0) (a8 := fun _ => 0) G hk rfl rfl
    rw [t] at u
    exact u
  · have t : pg_mx b d = b := by rw [pg_mx, pg_bgt z, cond_false]
    have u := pg_w179 (mc := 58) (ms := 928) (kc := 1 + 8) (ks := 10 + 70) (de := 0) (a4 := fun _ => 0) (a5 := fun _ => 0) (a6 := fun _ => 0) (a7 := fun _ => 0) (a8 := fun _ => 0) G hk rfl rfl
    rw [t] at u
    exact u
theorem pg_cell {post : Int32 → Prop} {L i : Nat} {xs : Nat → Int32} (hL : L ≤ 4) (hi : i < 4) (H : ∀ v, post v) : wpL_cellAt post L xs () (nI i) :=
  pk_le L i (fun _ => H 0) (fun z => ⟨pk_in i L z, H _⟩)
theorem i_vc (xs : Nat → Int32) (L : Nat) (hL : L ≤ 4) : wpL_law (fun r => r = 1) L xs :=
  pg_cell (i := 0) hL (by decide) (fun v0 => pg_cell (i := 1) hL (by decide) (fun v1 => pg_cell (i := 2) hL (by decide) (fun v2 => pg_cell (i := 3) hL (by decide) (fun v3 => ⟨58, 928, by omega, by omega, pg_lawOf v0 v1 v2 v3⟩))))
end
