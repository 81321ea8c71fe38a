section
/-! ===== bits of an Int32 (began as the first family of laws/BITS.to-paste, renamed) ===== -/
def cg_bt (x : Int32) (i : Nat) : Bool := x.toBitVec.getLsbD i
theorem cg_b_ext {x y : Int32} (h : ∀ i, i < 32 → cg_bt x i = cg_bt y i) : x = y := Int32.toBitVec_inj.mp (BitVec.eq_of_getLsbD_eq (fun i hi => h i hi))
theorem cg_b_or (x y : Int32) (i : Nat) : cg_bt (x ||| y) i = (cg_bt x i || cg_bt y i) := by unfold cg_bt; rw [Int32.toBitVec_or, BitVec.getLsbD_or]
theorem cg_b_and (x y : Int32) (i : Nat) : cg_bt (x &&& y) i = (cg_bt x i && cg_bt y i) := by unfold cg_bt; rw [Int32.toBitVec_and, BitVec.getLsbD_and]
theorem cg_b_xor (x y : Int32) (i : Nat) : cg_bt (x ^^^ y) i = (cg_bt x i ^^ cg_bt y i) := by unfold cg_bt; rw [Int32.toBitVec_xor, BitVec.getLsbD_xor]
theorem cg_b_m1 : ∀ i, i < 32 → cg_bt (-1) i = true := by decide +kernel
theorem cg_b_0 (i : Nat) : cg_bt 0 i = false := BitVec.getLsbD_zero
theorem cg_b_1 : ∀ i, i < 32 → cg_bt 1 i = decide (i = 0) := by decide +kernel
theorem cg_s_l : ∀ n, n < 32 → ((nI n &&& 31).toBitVec.smod 32).toNat = n := by decide +kernel
theorem cg_b_shl (n : Nat) (hn : n < 32) (x : Int32) {i : Nat} (hi : i < 32) : cg_bt (x <<< (nI n &&& 31)) i = (decide (n ≤ i) && cg_bt x (i - n)) := by
  unfold cg_bt
  rw [Int32.toBitVec_shiftLeft]
  show (x.toBitVec <<< ((nI n &&& 31).toBitVec.smod 32).toNat).getLsbD i = _
  rw [cg_s_l n hn, BitVec.getLsbD_shiftLeft]
  rcases Nat.lt_or_ge i n with h | h
  · simp [h, Nat.not_le.mpr h]
  · simp [hi, h, Nat.not_lt.mpr h]
theorem cg_b_sshr (n : Nat) (hn : n < 32) (x : Int32) {i : Nat} (hi : i < 32) : cg_bt (x >>> (nI n &&& 31)) i = if n + i < 32 then cg_bt x (n + i) else cg_bt x 31 := by
  unfold cg_bt
  rw [Int32.toBitVec_shiftRight]
  show (x.toBitVec.sshiftRight ((nI n &&& 31).toBitVec.smod 32).toNat).getLsbD i = _
  rw [cg_s_l n hn, BitVec.getLsbD_sshiftRight, BitVec.msb_eq_getLsbD_last]
  simp [hi]
/-- one bit asked by the program -/
theorem cg_bit (x : Int32) {c : Nat} (hc : c < 32) : (x >>> (nI c &&& 31)) &&& 1 = if cg_bt x c = true then 1 else 0 := by
  apply cg_b_ext
  intro i hi
  rw [cg_b_and, cg_b_sshr c hc x hi, cg_b_1 i hi]
  by_cases h0 : i = 0
  · subst h0
    simp only [Nat.add_zero, hc, if_true, decide_true, Bool.and_true]
    by_cases hb : cg_bt x c = true
    · rw [if_pos hb, hb, cg_b_1 0 (by omega)]; rfl
    · rw [if_neg hb, cg_b_0]; simpa using hb
  · rw [decide_eq_false h0, Bool.and_false]
    by_cases hb : cg_bt x c = true
    · rw [if_pos hb, cg_b_1 i hi, decide_eq_false h0]
    · rw [if_neg hb, cg_b_0]
theorem cg_bit1 {x : Int32} {c : Nat} (hc : c < 32) : ((x >>> (nI c &&& 31)) &&& 1 = 1) ↔ cg_bt x c = true := by
  rw [cg_bit x hc]
  by_cases hb : cg_bt x c = true
  · simp [hb]
  · rw [if_neg hb]
    exact ⟨fun h => absurd h (by decide), fun h => absurd h hb⟩
theorem cg_set (x : Int32) {c d : Nat} (hc : c < 32) (hd : d < 32) : cg_bt (x ||| ((1 : Int32) <<< (nI c &&& 31))) d = (cg_bt x d || decide (d = c)) := by
  rw [cg_b_or, cg_b_shl c hc 1 hd, cg_b_1 (d - c) (by omega)]
  congr 1
  rw [← Bool.decide_and]
  exact decide_eq_decide.mpr (by omega)
theorem cg_clear (x : Int32) {c d : Nat} (hc : c < 32) (hd : d < 32) : cg_bt (x &&& (((1 : Int32) <<< (nI c &&& 31)) ^^^ (-1))) d = (cg_bt x d && !decide (d = c)) := by
  rw [cg_b_and, cg_b_xor, cg_b_shl c hc 1 hd, cg_b_1 (d - c) (by omega), cg_b_m1 d hd]
  congr 1
  rw [← Bool.decide_and, Bool.xor_true]
  congr 1
  exact decide_eq_decide.mpr (by omega)
theorem cg_diff (x h : Int32) {d : Nat} (hd : d < 32) : cg_bt (x &&& (h ^^^ (-1))) d = (cg_bt x d && !cg_bt h d) := by
  rw [cg_b_and, cg_b_xor, cg_b_m1 d hd, Bool.xor_true]
theorem cg_below0 : ∀ c, c < 16 → ∀ d, d < 32 → cg_bt (((1 : Int32) <<< (nI c &&& 31)) - 1) d = decide (d < c) := by decide +kernel
theorem cg_below (x : Int32) {c d : Nat} (hc : c < 16) (hd : d < 32) : cg_bt (x &&& (((1 : Int32) <<< (nI c &&& 31)) - 1)) d = (cg_bt x d && decide (d < c)) := by
  rw [cg_b_and, cg_below0 c hc d hd]

/-! ===== paths: last, first, edges, links ===== -/
def cg_la : Nat → List Nat → Nat
  | b, [] => b
  | _, x :: l => cg_la x l
def cg_hd (e : Nat) : List Nat → Nat
  | [] => e
  | x :: _ => x
def cg_es (u v : Nat) : Nat → List Nat → Nat
  | _, [] => 0
  | b, x :: l => (if b = u ∧ x = v then 1 else 0) + cg_es u v x l
def cg_ln (g : Nat → Int32) (r : Nat) : Nat → List Nat → Prop
  | _, [] => True
  | b, x :: l => g (62 * r + b) = nI x ∧ cg_ln g r x l
def cg_lay (r : Nat) : (Nat → Int32) → Nat → List Nat → (Nat → Int32)
  | g, _, [] => g
  | g, b, x :: l => cg_lay r (upd g (62 * r + b) (nI x)) x l
def cg_on (r : Nat) (v : Int32) : (Nat → Int32) → List Nat → (Nat → Int32)
  | g, [] => g
  | g, x :: l => cg_on r v (upd g (62 * r + x) v) l

theorem cg_la_app (A : List Nat) : ∀ b B, cg_la b (A ++ B) = cg_la (cg_la b A) B := by
  induction A with
  | nil => intro b B; rfl
  | cons x A ih => intro b B; exact ih x B
theorem cg_la_mem (A : List Nat) : ∀ b, cg_la b A ∈ b :: A := by
  induction A with
  | nil => intro b; exact List.mem_singleton.mpr rfl
  | cons x A ih => intro b; exact List.mem_cons_of_mem _ (ih x)
theorem cg_la_split (A : List Nat) : ∀ b, ∃ X, b :: A = X ++ [cg_la b A] := by
  induction A with
  | nil => intro b; exact ⟨[], rfl⟩
  | cons x A ih =>
    intro b
    obtain ⟨X, hX⟩ := ih x
    exact ⟨b :: X, by rw [List.cons_append]; exact congrArg _ hX⟩
theorem cg_hd_split (e : Nat) (B : List Nat) : ∃ Y, B ++ [e] = cg_hd e B :: Y := by
  cases B with
  | nil => exact ⟨[], rfl⟩
  | cons x B => exact ⟨B ++ [e], rfl⟩
theorem cg_hd_app (e : Nat) (A B : List Nat) : cg_hd e (A ++ B) = cg_hd (cg_hd e B) A := by
  cases A <;> rfl
theorem cg_find {l : List Nat} : ∀ {b x : Nat}, x ∈ b :: l → ∃ A B, l = A ++ B ∧ cg_la b A = x := by
  induction l with
  | nil =>
    intro b x h
    exact ⟨[], [], rfl, (List.mem_singleton.mp h).symm⟩
  | cons y l ih =>
    intro b x h
    rcases List.mem_cons.mp h with h | h
    · exact ⟨[], y :: l, rfl, h.symm⟩
    · obtain ⟨A, B, h1, h2⟩ := ih h
      exact ⟨y :: A, B, by rw [h1]; rfl, h2⟩
theorem cg_es_app (u v : Nat) (A : List Nat) : ∀ b B, cg_es u v b (A ++ B) = cg_es u v b A + cg_es u v (cg_la b A) B := by
  induction A with
  | nil => intro b B; exact (Nat.zero_add _).symm
  | cons x A ih =>
    intro b B
    show _ + cg_es u v x (A ++ B) = (_ + cg_es u v x A) + cg_es u v (cg_la x A) B
    rw [ih x B, Nat.add_assoc]
theorem cg_es_0 {u v : Nat} (l : List Nat) : ∀ b, u ∉ b :: l → cg_es u v b l = 0 := by
  induction l with
  | nil => intro b _; rfl
  | cons x l ih =>
    intro b h
    show (if b = u ∧ x = v then 1 else 0) + cg_es u v x l = 0
    rw [ih x (fun z => h (List.mem_cons_of_mem _ z)), if_neg]
    intro z
    exact h (by rw [z.1]; exact List.mem_cons_self)
theorem cg_ln_app (g : Nat → Int32) (r : Nat) (A : List Nat) : ∀ b B, cg_ln g r b (A ++ B) ↔ cg_ln g r b A ∧ cg_ln g r (cg_la b A) B := by
  induction A with
  | nil => intro b B; exact ⟨fun h => ⟨trivial, h⟩, fun h => h.2⟩
  | cons x A ih =>
    intro b B
    show (_ ∧ cg_ln g r x (A ++ B)) ↔ (_ ∧ cg_ln g r x A) ∧ cg_ln g r (cg_la x A) B
    rw [ih x B, and_assoc]
/-- the edges of the path of a file, cut at a run -/
theorem cg_es_cut (u v : Nat) {A B : List Nat} {b e : Nat} (hb : cg_la 60 A = b) {Y : List Nat} (he : B ++ [61] = e :: Y) (O : List Nat) :
    cg_es u v 60 (A ++ O ++ B ++ [61]) = cg_es u v 60 A + cg_es u v b (O ++ [e]) + cg_es u v e Y := by
  rw [List.append_assoc, List.append_assoc, he, cg_es_app, hb, show O ++ e :: Y = (O ++ [e]) ++ Y by simp, cg_es_app, cg_la_app]
  show _ + (_ + cg_es u v e Y) = _
  omega
theorem cg_ln_cut (g : Nat → Int32) (r : Nat) {A B : List Nat} {b e : Nat} (hb : cg_la 60 A = b) {Y : List Nat} (he : B ++ [61] = e :: Y) (O : List Nat) :
    cg_ln g r 60 (A ++ O ++ B ++ [61]) ↔ cg_ln g r 60 A ∧ cg_ln g r b (O ++ [e]) ∧ cg_ln g r e Y := by
  rw [List.append_assoc, List.append_assoc, he, cg_ln_app, hb, show O ++ e :: Y = (O ++ [e]) ++ Y by simp, cg_ln_app, cg_la_app]
  exact Iff.rfl
theorem cg_ln_at {g : Nat → Int32} {r : Nat} {F A B : List Nat} (h : cg_ln g r 60 (F ++ [61])) (e : F = A ++ B) : g (62 * r + cg_la 60 A) = nI (cg_hd 61 B) := by
  obtain ⟨Y, hY⟩ := cg_hd_split 61 B
  rw [e, List.append_assoc, cg_ln_app, hY] at h
  exact h.2.1
/-- a path without repetition is known by its edges -/
theorem cg_uniq (F : List Nat) : ∀ (b : Nat) (G : List Nat), (b :: (F ++ [61])).Nodup → (b :: (G ++ [61])).Nodup → (∀ u v, cg_es u v b (F ++ [61]) = cg_es u v b (G ++ [61])) → F = G := by
  induction F with
  | nil =>
    intro b G _ hG hE
    cases G with
    | nil => rfl
    | cons y G =>
      exfalso
      have h := hE b y
      have hy : y ≠ 61 := by
        intro z
        have h2 := (List.nodup_cons.mp (List.nodup_cons.mp hG).2).1
        exact h2 (by rw [z]; simp)
      have e1 : cg_es b y b ([] ++ [61]) = 0 := by
        show (if b = b ∧ 61 = y then 1 else 0) + 0 = 0
        rw [if_neg (fun z => hy z.2.symm)]
      have e2 : cg_es b y b ((y :: G) ++ [61]) = 1 + cg_es b y y (G ++ [61]) := by
        show (if b = b ∧ y = y then 1 else 0) + cg_es b y y (G ++ [61]) = _
        rw [if_pos ⟨rfl, rfl⟩]
      omega
  | cons x F ih =>
    intro b G hF hG hE
    have hFx := (List.nodup_cons.mp hF).1
    cases G with
    | nil =>
      exfalso
      have h := hE b x
      have hx : x ≠ 61 := by
        intro z
        have h2 := (List.nodup_cons.mp (List.nodup_cons.mp hF).2).1
        exact h2 (by rw [z]; simp)
      have e1 : cg_es b x b ([] ++ [61]) = 0 := by
        show (if b = b ∧ 61 = x then 1 else 0) + 0 = 0
        rw [if_neg (fun z => hx z.2.symm)]
      have e2 : cg_es b x b ((x :: F) ++ [61]) = 1 + cg_es b x x (F ++ [61]) := by
        show (if b = b ∧ x = x then 1 else 0) + cg_es b x x (F ++ [61]) = _
        rw [if_pos ⟨rfl, rfl⟩]
      omega
    | cons y G =>
      have hGx := (List.nodup_cons.mp hG).1
      have hxy : y = x := by
        have h := hE b x
        have e2 : cg_es b x b ((x :: F) ++ [61]) = 1 + cg_es b x x (F ++ [61]) := by
          show (if b = b ∧ x = x then 1 else 0) + cg_es b x x (F ++ [61]) = _
          rw [if_pos ⟨rfl, rfl⟩]
        have e3 : cg_es b x b ((y :: G) ++ [61]) = (if b = b ∧ y = x then 1 else 0) + cg_es b x y (G ++ [61]) := rfl
        rw [cg_es_0 (G ++ [61]) y hGx] at e3
        by_cases z : y = x
        · exact z
        · rw [if_neg (fun q => z q.2)] at e3
          omega
      subst hxy
      congr 1
      refine ih y G (List.nodup_cons.mp hF).2 (List.nodup_cons.mp hG).2 (fun u v => ?_)
      have h := hE u v
      have e2 : cg_es u v b ((y :: F) ++ [61]) = (if b = u ∧ y = v then 1 else 0) + cg_es u v y (F ++ [61]) := rfl
      have e3 : cg_es u v b ((y :: G) ++ [61]) = (if b = u ∧ y = v then 1 else 0) + cg_es u v y (G ++ [61]) := rfl
      omega

/-! ===== stores along a list ===== -/
theorem cg_lay_out {r : Nat} {e y : Nat} (P : List Nat) : ∀ (g : Nat → Int32) (b : Nat), (∀ x, x ∈ b :: P → y ≠ 62 * r + x) → cg_lay r g b (P ++ [e]) y = g y := by
  induction P with
  | nil =>
    intro g b h
    exact pk_un (h b List.mem_cons_self)
  | cons x P ih =>
    intro g b h
    show cg_lay r (upd g (62 * r + b) (nI x)) x (P ++ [e]) y = g y
    rw [ih _ x (fun z hz => h z (List.mem_cons_of_mem _ hz))]
    exact pk_un (h b List.mem_cons_self)
theorem cg_lay_in {r : Nat} {e : Nat} (P : List Nat) : ∀ (g : Nat → Int32) (b : Nat), (b :: P).Nodup → cg_ln (cg_lay r g b (P ++ [e])) r b (P ++ [e]) := by
  induction P with
  | nil =>
    intro g b _
    exact ⟨pk_us, trivial⟩
  | cons x P ih =>
    intro g b h
    have h1 := List.nodup_cons.mp h
    refine ⟨?_, ih _ x h1.2⟩
    show cg_lay r (upd g (62 * r + b) (nI x)) x (P ++ [e]) (62 * r + b) = nI x
    rw [cg_lay_out P _ x (fun z hz q => h1.1 (by rw [show b = z by omega]; exact hz))]
    exact pk_us
theorem cg_ln_congr {g g' : Nat → Int32} {r : Nat} (l : List Nat) : ∀ b, (b :: l).Nodup → (∀ x, x ∈ b :: l → x ≠ cg_la b l → g' (62 * r + x) = g (62 * r + x)) → cg_ln g r b l → cg_ln g' r b l := by
  induction l with
  | nil => intro b _ _ _; trivial
  | cons x l ih =>
    intro b hn h hl
    have h1 := List.nodup_cons.mp hn
    refine ⟨?_, ih x h1.2 (fun z hz hq => h z (List.mem_cons_of_mem _ hz) hq) hl.2⟩
    rw [h b List.mem_cons_self (fun z => h1.1 (by rw [z]; exact cg_la_mem l x))]
    exact hl.1
theorem cg_on_out {r : Nat} {v : Int32} {y : Nat} (l : List Nat) : ∀ g : Nat → Int32, (∀ x, x ∈ l → y ≠ 62 * r + x) → cg_on r v g l y = g y := by
  induction l with
  | nil => intro g _; rfl
  | cons x l ih =>
    intro g h
    show cg_on r v (upd g (62 * r + x) v) l y = g y
    rw [ih _ (fun z hz => h z (List.mem_cons_of_mem _ hz))]
    exact pk_un (h x List.mem_cons_self)
theorem cg_on_in {r : Nat} {v : Int32} {x : Nat} (l : List Nat) : ∀ g : Nat → Int32, x ∈ l → cg_on r v g l (62 * r + x) = v := by
  induction l with
  | nil => intro g h; exact absurd h List.not_mem_nil
  | cons y l ih =>
    intro g h
    show cg_on r v (upd g (62 * r + y) v) l (62 * r + x) = v
    by_cases hx : x ∈ l
    · exact ih _ hx
    · rcases List.mem_cons.mp h with h | h
      · rw [cg_on_out l _ (fun z hz q => hx (by rw [show x = z by omega]; exact hz)), h]
        exact pk_us
      · exact absurd h hx

/-! ===== sums over a set ===== -/
def cg_sum (h : Nat → Bool) (f : Nat → Int) : Nat → Int
  | 0 => 0
  | n + 1 => cg_sum h f n + (if h n = true then f n else 0)
theorem cg_sum_congr {h h' : Nat → Bool} {f f' : Nat → Int} : ∀ n, (∀ c, c < n → h c = h' c) → (∀ c, c < n → h c = true → f c = f' c) → cg_sum h f n = cg_sum h' f' n := by
  intro n
  induction n with
  | zero => intro _ _; rfl
  | succ n ih =>
    intro hh hf
    show cg_sum h f n + _ = cg_sum h' f' n + _
    rw [ih (fun c hc => hh c (by omega)) (fun c hc => hf c (by omega)), ← hh n (by omega)]
    by_cases z : h n = true
    · rw [if_pos z, if_pos z, hf n (by omega) z]
    · rw [if_neg z, if_neg z]
theorem cg_sum_le {h : Nat → Bool} {f f' : Nat → Int} : ∀ n, (∀ c, c < n → h c = true → f c ≤ f' c) → cg_sum h f n ≤ cg_sum h f' n := by
  intro n
  induction n with
  | zero => intro _; exact Int.le_refl _
  | succ n ih =>
    intro hf
    have h1 := ih (fun c hc => hf c (by omega))
    show cg_sum h f n + _ ≤ cg_sum h f' n + _
    by_cases z : h n = true
    · rw [if_pos z, if_pos z]
      have h2 := hf n (by omega) z
      omega
    · rw [if_neg z, if_neg z]
      omega
theorem cg_sum_nil {h : Nat → Bool} : ∀ n, cg_sum h (fun _ => 0) n = 0 := by
  intro n
  induction n with
  | zero => rfl
  | succ n ih =>
    show cg_sum h (fun _ => 0) n + _ = 0
    rw [ih]
    by_cases z : h n = true
    · rw [if_pos z]; rfl
    · rw [if_neg z]; rfl
theorem cg_sum_sub {h : Nat → Bool} {f f' : Nat → Int} : ∀ n, cg_sum h (fun c => f c - f' c) n = cg_sum h f n - cg_sum h f' n := by
  intro n
  induction n with
  | zero => rfl
  | succ n ih =>
    show cg_sum h (fun c => f c - f' c) n + _ = (cg_sum h f n + _) - (cg_sum h f' n + _)
    rw [ih]
    by_cases z : h n = true
    · rw [if_pos z, if_pos z, if_pos z]
      show _ + (f n - f' n) = _
      omega
    · rw [if_neg z, if_neg z, if_neg z]; omega
theorem cg_sum_one {h : Nat → Bool} {s : Nat} : ∀ n, cg_sum h (fun d => if d = s then 1 else 0) n = if s < n ∧ h s = true then 1 else 0 := by
  intro n
  induction n with
  | zero => rw [if_neg (fun z => absurd z.1 (by omega))]; rfl
  | succ n ih =>
    show cg_sum h (fun d => if d = s then 1 else 0) n + (if h n = true then (if n = s then 1 else 0) else 0) = _
    rw [ih]
    by_cases e : n = s
    · subst e
      rw [if_neg (fun z => absurd z.1 (by omega))]
      by_cases z : h n = true
      · rw [if_pos z, if_pos rfl, if_pos ⟨by omega, z⟩]; rfl
      · rw [if_neg z, if_neg (fun q => z q.2)]; rfl
    · rw [if_neg e]
      have : (s < n + 1 ∧ h s = true) ↔ (s < n ∧ h s = true) := by
        constructor
        · intro q; exact ⟨by omega, q.2⟩
        · intro q; exact ⟨by omega, q.2⟩
      simp only [this]
      by_cases z : h n = true
      · rw [if_pos z]; omega
      · rw [if_neg z]; omega
theorem cg_sum_flip {h h' : Nat → Bool} {f : Nat → Int} {c : Nat} (h0 : h c = false) (h1 : h' c = true) : ∀ n, c < n → (∀ d, d < n → d ≠ c → h' d = h d) → cg_sum h' f n = cg_sum h f n + f c := by
  intro n
  induction n with
  | zero => intro hc; exact absurd hc (by omega)
  | succ n ih =>
    intro hc hd
    show cg_sum h' f n + _ = (cg_sum h f n + _) + f c
    by_cases e : c = n
    · subst e
      rw [cg_sum_congr (h := h') (h' := h) (f' := f) c (fun d hdc => hd d (by omega) (by omega)) (fun _ _ _ => rfl), if_pos h1, if_neg (by rw [h0]; decide)]
      omega
    · rw [ih (by omega) (fun d hdn => hd d (by omega)), hd n (by omega) (fun z => e z.symm)]
      omega
end
section
/-! ===== the table of changes and the rooms ===== -/
/-- a change: before, behind, lines taken, lines put -/
abbrev cg_K : Type := Nat → Nat × Nat × List Nat × List Nat
def cg_kb (K : cg_K) (c : Nat) : Nat := (K c).1
def cg_ke (K : cg_K) (c : Nat) : Nat := (K c).2.1
def cg_kT (K : cg_K) (c : Nat) : List Nat := (K c).2.2.1
def cg_kP (K : cg_K) (c : Nat) : List Nat := (K c).2.2.2
/-- one row of the table -/
def cg_row (K : cg_K) (us : Nat) (a3 a4 a5 a6 a7 a8 : Nat → Int32) (c : Nat) : Prop :=
  a3 c = nI (cg_kb K c) ∧ cg_kb K c ≤ 60 ∧ a4 c = nI (cg_ke K c) ∧ cg_ke K c ≤ 61 ∧
  (∃ p, a5 c = nI p ∧ cg_kP K c = List.range' p (cg_kP K c).length ∧ p + (cg_kP K c).length ≤ us) ∧
  a6 c = nI (cg_kP K c).length ∧ a7 c = nI (cg_kT K c).length ∧ (cg_kT K c).length ≤ 20 ∧
  (∀ (k : Nat) (h : k < (cg_kT K c).length), a8 (20 * c + k) = nI ((cg_kT K c)[k])) ∧
  (cg_kT K c).Nodup ∧ (∀ x, x ∈ cg_kT K c → x < 60)
def cg_tab (K : cg_K) (us mu : Nat) (fu fm : Int32) (a3 a4 a5 a6 a7 a8 : Nat → Int32) : Prop :=
  fu = nI us ∧ us ≤ 60 ∧ fm = nI mu ∧ mu ≤ 16 ∧ (∀ c, c < mu → cg_row K us a3 a4 a5 a6 a7 a8 c) ∧
  (∀ c d, c < mu → d < mu → c ≠ d → ∀ x, x ∈ cg_kP K c → x ∉ cg_kP K d)
/-- what a file holds, out of the held set alone -/
def cg_sums (h : Nat → Bool) (K : cg_K) (mu : Nat) (F : List Nat) : Prop :=
  (∀ x, x < 60 → (F.count x : Int) = cg_sum h (fun c => ((cg_kP K c).count x : Int) - ((cg_kT K c).count x : Int)) mu) ∧
  (∀ u v, (cg_es u v 60 (F ++ [61]) : Int) = (cg_es u v 60 [61] : Int) + cg_sum h (fun c => (cg_es u v (cg_kb K c) (cg_kP K c ++ [cg_ke K c]) : Int) - (cg_es u v (cg_kb K c) (cg_kT K c ++ [cg_ke K c]) : Int)) mu)
def cg_rm (K : cg_K) (mu : Nat) (a10 a11 a12 a13 : Nat → Int32) (r : Nat) (F : List Nat) : Prop :=
  F.Nodup ∧ (∀ x, x ∈ F → x < 60) ∧ a13 r = nI F.length ∧ cg_ln a11 r 60 (F ++ [61]) ∧
  (∀ x, x < 62 → (a12 (62 * r + x) ≠ 0 ↔ x ∈ 60 :: (F ++ [61]))) ∧
  (∀ c, mu ≤ c → c < 32 → cg_bt (a10 r) c = false) ∧ cg_sums (cg_bt (a10 r)) K mu F
/-- a step of a file: the run before stands between A and B, and is replaced by the run after -/
def cg_stp (K : cg_K) (c : Nat) (F F' : List Nat) : Prop :=
  ∃ A B, F = A ++ cg_kT K c ++ B ∧ F' = A ++ cg_kP K c ++ B ∧ cg_la 60 A = cg_kb K c ∧ cg_hd 61 B = cg_ke K c

theorem cg_nd {F : List Nat} (h : F.Nodup) (h6 : ∀ x, x ∈ F → x < 60) : (60 :: (F ++ [61])).Nodup := by
  refine List.nodup_cons.mpr ⟨?_, List.nodup_append.mpr ⟨h, by simp, ?_⟩⟩
  · intro z
    rcases List.mem_append.mp z with z | z
    · have := h6 60 z; omega
    · have := List.mem_singleton.mp z; omega
  · intro x hx y hy
    have h1 := h6 x hx
    have h2 := List.mem_singleton.mp hy
    omega
theorem cg_kP_mem {K : cg_K} {us mu : Nat} {fu fm : Int32} {a3 a4 a5 a6 a7 a8 : Nat → Int32} (ht : cg_tab K us mu fu fm a3 a4 a5 a6 a7 a8) {c x : Nat} (hc : c < mu) (hx : x ∈ cg_kP K c) : x < us := by
  obtain ⟨_, _, _, _, hr, _⟩ := ht
  obtain ⟨_, _, _, _, ⟨p, _, h2, h3⟩, _⟩ := hr c hc
  rw [h2] at hx
  have := List.mem_range'_1.mp hx
  omega
theorem cg_kP_nd {K : cg_K} {us mu : Nat} {fu fm : Int32} {a3 a4 a5 a6 a7 a8 : Nat → Int32} (ht : cg_tab K us mu fu fm a3 a4 a5 a6 a7 a8) {c : Nat} (hc : c < mu) : (cg_kP K c).Nodup := by
  obtain ⟨_, _, _, _, hr, _⟩ := ht
  obtain ⟨_, _, _, _, ⟨p, _, h2, h3⟩, _⟩ := hr c hc
  rw [h2]
  exact List.nodup_range'
theorem cg_cnt1 {l : List Nat} (h : l.Nodup) (x : Nat) : l.count x ≤ 1 := List.nodup_iff_count.mp h x
theorem cg_cnt0 {l : List Nat} {x : Nat} (h : x ∉ l) : l.count x = 0 := List.count_eq_zero.mpr h
theorem cg_cntp {l : List Nat} {x : Nat} (h : x ∈ l) : 0 < l.count x := List.count_pos_iff.mpr h
/-- a line in a file is one of a held change -/
theorem cg_held {h : Nat → Bool} {K : cg_K} {mu : Nat} {F : List Nat} (hs : cg_sums h K mu F) {x : Nat} (hx : x < 60) (hm : x ∈ F) : ∃ c, c < mu ∧ h c = true ∧ x ∈ cg_kP K c := by
  apply Classical.byContradiction
  intro hn
  have h1 := hs.1 x hx
  have h2 : cg_sum h (fun c => ((cg_kP K c).count x : Int) - ((cg_kT K c).count x : Int)) mu ≤ cg_sum h (fun _ => 0) mu := by
    apply cg_sum_le
    intro c hc hh
    have h3 : (cg_kP K c).count x = 0 := cg_cnt0 (fun z => hn ⟨c, hc, hh, z⟩)
    rw [h3]
    omega
  rw [cg_sum_nil] at h2
  have h4 := cg_cntp hm
  omega
theorem cg_lt_us {K : cg_K} {us mu : Nat} {fu fm : Int32} {a3 a4 a5 a6 a7 a8 : Nat → Int32} (ht : cg_tab K us mu fu fm a3 a4 a5 a6 a7 a8) {h : Nat → Bool} {F : List Nat} (hs : cg_sums h K mu F) (h6 : ∀ x, x ∈ F → x < 60) {x : Nat} (hm : x ∈ F) : x < us := by
  obtain ⟨c, hc, _, hx⟩ := cg_held hs (h6 x hm) hm
  exact cg_kP_mem ht hc hx
/-- lines of a change that isn't held aren't in the file -/
theorem cg_outP {K : cg_K} {us mu : Nat} {fu fm : Int32} {a3 a4 a5 a6 a7 a8 : Nat → Int32} (ht : cg_tab K us mu fu fm a3 a4 a5 a6 a7 a8) {h : Nat → Bool} {F : List Nat} (hs : cg_sums h K mu F) {c : Nat} (hc : c < mu) (hh : h c = false) {x : Nat} (hx : x ∈ cg_kP K c) : x ∉ F := by
  intro hm
  have h60 : x < 60 := by
    have h1 := cg_kP_mem ht hc hx
    have h2 := ht.2.1
    omega
  obtain ⟨d, hd, hhd, hxd⟩ := cg_held hs h60 hm
  have hne : c ≠ d := fun z => by rw [z, hhd] at hh; exact absurd hh (by decide)
  exact ht.2.2.2.2.2 c d hc hd hne x hx hxd
/-- lines taken by a held change aren't in the file -/
theorem cg_outT {K : cg_K} {us mu : Nat} {fu fm : Int32} {a3 a4 a5 a6 a7 a8 : Nat → Int32} (ht : cg_tab K us mu fu fm a3 a4 a5 a6 a7 a8) {h : Nat → Bool} {F : List Nat} (hs : cg_sums h K mu F) {c : Nat} (hc : c < mu) (hh : h c = true) {x : Nat} (hx : x ∈ cg_kT K c) : x ∉ F := by
  intro hm
  have h60 : x < 60 := (ht.2.2.2.2.1 c hc).2.2.2.2.2.2.2.2.2.2 x hx
  obtain ⟨s, hsm, hhs, hxs⟩ := cg_held hs h60 hm
  have h1 := hs.1 x h60
  have h2 : cg_sum h (fun d => ((cg_kP K d).count x : Int) - ((cg_kT K d).count x : Int)) mu ≤ cg_sum h (fun d => (if d = s then 1 else 0) - (if d = c then 1 else 0)) mu := by
    apply cg_sum_le
    intro d hd _
    have hP : ((cg_kP K d).count x : Int) ≤ if d = s then 1 else 0 := by
      by_cases e : d = s
      · rw [if_pos e]
        have := cg_cnt1 (cg_kP_nd ht hd) x
        omega
      · rw [if_neg e, cg_cnt0 (fun z => ht.2.2.2.2.2 d s hd hsm e x z hxs)]
        omega
    have hT : (if d = c then 1 else 0 : Int) ≤ ((cg_kT K d).count x : Int) := by
      by_cases e : d = c
      · rw [if_pos e, e]
        have := cg_cntp hx
        omega
      · rw [if_neg e]
        omega
    omega
  rw [cg_sum_sub (f := fun d => if d = s then 1 else 0) (f' := fun d => if d = c then 1 else 0), cg_sum_one, cg_sum_one, if_pos ⟨hsm, hhs⟩, if_pos ⟨hc, hh⟩] at h2
  have h4 := cg_cntp hm
  omega
/-- the same held set, the same file -/
theorem cg_same {K : cg_K} {mu : Nat} {h h' : Nat → Bool} {F G : List Nat} (hs : cg_sums h K mu F) (hs' : cg_sums h' K mu G) (he : ∀ c, c < mu → h c = h' c) (nF : F.Nodup) (nG : G.Nodup) (lF : ∀ x, x ∈ F → x < 60) (lG : ∀ x, x ∈ G → x < 60) : F = G := by
  refine cg_uniq F 60 G (cg_nd nF lF) (cg_nd nG lG) (fun u v => ?_)
  have h1 := hs.2 u v
  have h2 := hs'.2 u v
  rw [cg_sum_congr mu he (fun _ _ _ => rfl)] at h1
  omega
/-- the sums when a change is made or taken back -/
theorem cg_sums_make {K : cg_K} {mu : Nat} {h h' : Nat → Bool} {A B : List Nat} {c : Nat} (hs : cg_sums h K mu (A ++ cg_kT K c ++ B)) (hc : c < mu) (h0 : h c = false) (h1 : h' c = true) (hd : ∀ d, d < mu → d ≠ c → h' d = h d) (hb : cg_la 60 A = cg_kb K c) (he : cg_hd 61 B = cg_ke K c) : cg_sums h' K mu (A ++ cg_kP K c ++ B) := by
  constructor
  · intro x hx
    have e := hs.1 x hx
    rw [cg_sum_flip h0 h1 mu hc hd]
    simp only [List.count_append] at e ⊢
    omega
  · intro u v
    have e := hs.2 u v
    obtain ⟨Y, hY⟩ := cg_hd_split 61 B
    rw [he] at hY
    rw [cg_sum_flip h0 h1 mu hc hd]
    rw [cg_es_cut u v hb hY] at e ⊢
    omega
theorem cg_sums_back {K : cg_K} {mu : Nat} {h h' : Nat → Bool} {A B : List Nat} {c : Nat} (hs : cg_sums h K mu (A ++ cg_kP K c ++ B)) (hc : c < mu) (h0 : h c = true) (h1 : h' c = false) (hd : ∀ d, d < mu → d ≠ c → h' d = h d) (hb : cg_la 60 A = cg_kb K c) (he : cg_hd 61 B = cg_ke K c) : cg_sums h' K mu (A ++ cg_kT K c ++ B) := by
  have fl : ∀ f : Nat → Int, cg_sum h f mu = cg_sum h' f mu + f c := fun f => cg_sum_flip h1 h0 mu hc (fun d hm hn => (hd d hm hn).symm)
  constructor
  · intro x hx
    have e := hs.1 x hx
    rw [fl] at e
    simp only [List.count_append] at e ⊢
    omega
  · intro u v
    have e := hs.2 u v
    obtain ⟨Y, hY⟩ := cg_hd_split 61 B
    rw [he] at hY
    rw [fl] at e
    rw [cg_es_cut u v hb hY] at e ⊢
    omega
/-- a run of a room replaced by another: the stores that do it -/
theorem cg_rm_step {K : cg_K} {mu : Nat} {a10 a11 a12 a13 : Nat → Int32} {r : Nat} {A O I B : List Nat} {b e : Nat} {h' : Int32}
    (hr : cg_rm K mu a10 a11 a12 a13 r (A ++ O ++ B)) (hb : cg_la 60 A = b) (he : cg_hd 61 B = e) (hI : I.Nodup) (hI6 : ∀ x, x ∈ I → x < 60) (hd : ∀ x, x ∈ I → x ∉ A ++ O ++ B)
    (hz : ∀ c, mu ≤ c → c < 32 → cg_bt h' c = false) (hs : cg_sums (cg_bt h') K mu (A ++ I ++ B)) :
    cg_rm K mu (upd a10 r h') (cg_lay r a11 b (I ++ [e])) (cg_on r 1 (cg_on r 0 a12 O) I) (upd a13 r (nI (A ++ I ++ B).length)) r (A ++ I ++ B) := by
  obtain ⟨r1, r2, r3, r4, r5, r6, r7⟩ := hr
  obtain ⟨Y, hY⟩ := cg_hd_split 61 B
  rw [he] at hY
  have memA : ∀ x, x ∈ A → x ∈ A ++ O ++ B := fun x h => List.mem_append_left _ (List.mem_append_left _ h)
  have memO : ∀ x, x ∈ O → x ∈ A ++ O ++ B := fun x h => List.mem_append_left _ (List.mem_append_right _ h)
  have memB : ∀ x, x ∈ B → x ∈ A ++ O ++ B := fun x h => List.mem_append_right _ h
  have nAO := List.nodup_append.mp (List.nodup_append.mp r1).1
  have nB := (List.nodup_append.mp r1).2
  have n' : (A ++ I ++ B).Nodup := by
    refine List.nodup_append.mpr ⟨List.nodup_append.mpr ⟨nAO.1, hI, ?_⟩, nB.1, ?_⟩
    · intro x hx y hy z
      exact hd y hy (memA y (by rw [← z]; exact hx))
    · intro x hx y hy z
      rcases List.mem_append.mp hx with hx | hx
      · exact nB.2 x (List.mem_append_left _ hx) y hy z
      · exact hd x hx (memB x (by rw [z]; exact hy))
  have l' : ∀ x, x ∈ A ++ I ++ B → x < 60 := by
    intro x hx
    rcases List.mem_append.mp hx with hx | hx
    · rcases List.mem_append.mp hx with hx | hx
      · exact r2 x (memA x hx)
      · exact hI6 x hx
    · exact r2 x (memB x hx)
  have nd := cg_nd n' l'
  -- b stands in 60 :: A
  have hbm : b ∈ 60 :: A := by rw [← hb]; exact cg_la_mem A 60
  have nd2 : (60 :: A).Nodup := by
    have : (60 :: (A ++ I ++ B ++ [61])) = (60 :: A) ++ (I ++ B ++ [61]) := by simp
    rw [this] at nd
    exact (List.nodup_append.mp nd).1
  have dj : ∀ x, x ∈ 60 :: A → ∀ y, y ∈ I ++ (e :: Y) → x ≠ y := by
    have : (60 :: (A ++ I ++ B ++ [61])) = (60 :: A) ++ (I ++ (B ++ [61])) := by simp
    rw [this, hY] at nd
    exact (List.nodup_append.mp nd).2.2
  have nd3 : (e :: Y).Nodup ∧ ∀ x, x ∈ I → ∀ y, y ∈ e :: Y → x ≠ y := by
    have : (60 :: (A ++ I ++ B ++ [61])) = (60 :: A) ++ (I ++ (B ++ [61])) := by simp
    rw [this, hY] at nd
    have := List.nodup_append.mp (List.nodup_append.mp nd).2.1
    exact ⟨this.2.1, this.2.2⟩
  refine ⟨n', l', pk_us, ?_, ?_, ?_, ?_⟩
  · rw [cg_ln_cut _ r hb hY]
    rw [cg_ln_cut _ r hb hY] at r4
    refine ⟨cg_ln_congr A 60 nd2 (fun x hx hq => ?_) r4.1, cg_lay_in I a11 b ?_, cg_ln_congr Y e nd3.1 (fun x hx hq => ?_) r4.2.2⟩
    · rw [hb] at hq
      refine cg_lay_out I a11 b (fun y hy z => ?_)
      have hxy : x = y := by omega
      rcases List.mem_cons.mp hy with hy | hy
      · exact hq (by omega)
      · exact dj x hx y (List.mem_append_left _ hy) hxy
    · exact List.nodup_cons.mpr ⟨fun z => dj b hbm b (List.mem_append_left _ z) rfl, hI⟩
    · refine cg_lay_out I a11 b (fun y hy z => ?_)
      have hxy : y = x := by omega
      rcases List.mem_cons.mp hy with hy | hy
      · exact dj b hbm x (List.mem_append_right _ hx) (by omega)
      · exact nd3.2 y hy x hx hxy
  · intro x hx
    by_cases xI : x ∈ I
    · rw [cg_on_in I _ xI]
      exact ⟨fun _ => by simp [xI], fun _ => by decide⟩
    · rw [cg_on_out I _ (fun z hz q => xI (by rw [show x = z by omega]; exact hz))]
      by_cases xO : x ∈ O
      · rw [cg_on_in O _ xO]
        have x60 := r2 x (memO x xO)
        have xA : x ∉ A := fun z => nAO.2.2 x z x xO rfl
        have xB : x ∉ B := fun z => nB.2 x (List.mem_append_right _ xO) x z rfl
        refine ⟨fun z => absurd rfl z, fun z => ?_⟩
        exfalso
        simp only [List.mem_cons, List.mem_append, List.mem_singleton, List.not_mem_nil, or_false] at z
        rcases z with z | ((z | z) | z) | z
        · omega
        · exact xA z
        · exact xI z
        · exact xB z
        · omega
      · rw [cg_on_out O _ (fun z hz q => xO (by rw [show x = z by omega]; exact hz)), r5 x hx]
        simp only [List.mem_cons, List.mem_append, List.mem_singleton, List.not_mem_nil, or_false, xI, xO]
  · intro c h1 h2
    rw [pk_us]
    exact hz c h1 h2
  · rw [pk_us]
    exact hs
/-- the other rooms keep what they have -/
theorem cg_rm_keep {K : cg_K} {mu : Nat} {a10 a11 a12 a13 : Nat → Int32} {r r' : Nat} {G O I : List Nat} {b e : Nat} {h' v : Int32} (hn : r' ≠ r)
    (hb : b ≤ 60) (hI6 : ∀ x, x ∈ I → x < 60) (hO6 : ∀ x, x ∈ O → x < 60) (hr : cg_rm K mu a10 a11 a12 a13 r' G) :
    cg_rm K mu (upd a10 r h') (cg_lay r a11 b (I ++ [e])) (cg_on r 1 (cg_on r 0 a12 O) I) (upd a13 r v) r' G := by
  obtain ⟨r1, r2, r3, r4, r5, r6, r7⟩ := hr
  have hq : ∀ x y, x < 62 → y < 62 → 62 * r' + x ≠ 62 * r + y := fun x y hx hy z => hn (by omega)
  refine ⟨r1, r2, by rw [pk_un hn]; exact r3, ?_, ?_, ?_, ?_⟩
  · refine cg_ln_congr _ 60 (cg_nd r1 r2) (fun x hx _ => ?_) r4
    have hx62 : x < 62 := by
      rcases List.mem_cons.mp hx with hx | hx
      · omega
      · rcases List.mem_append.mp hx with hx | hx
        · have := r2 x hx; omega
        · have := List.mem_singleton.mp hx; omega
    refine cg_lay_out I a11 b (fun y hy => hq x y hx62 ?_)
    rcases List.mem_cons.mp hy with hy | hy
    · omega
    · have := hI6 y hy; omega
  · intro x hx
    rw [cg_on_out I _ (fun y hy => hq x y hx (by have := hI6 y hy; omega)), cg_on_out O _ (fun y hy => hq x y hx (by have := hO6 y hy; omega))]
    exact r5 x hx
  · rw [pk_un hn]; exact r6
  · rw [pk_un hn]; exact r7
/-- a longer table, the same rooms -/
theorem cg_sums_ext {K K' : cg_K} {mu mu' : Nat} {h : Nat → Bool} {F : List Nat} (hs : cg_sums h K mu F) (hk : ∀ c, c < mu → K' c = K c) (hm : mu ≤ mu') (h0 : ∀ c, mu ≤ c → c < mu' → h c = false) : cg_sums h K' mu' F := by
  have ext : ∀ (f : Nat → Int) (n : Nat), mu ≤ n → n ≤ mu' → cg_sum h f n = cg_sum h f mu := by
    intro f n
    induction n with
    | zero => intro h1 _; rw [show mu = 0 by omega]
    | succ n ih =>
      intro h1 h2
      by_cases e : mu = n + 1
      · rw [e]
      · show cg_sum h f n + _ = _
        rw [ih (by omega) (by omega), if_neg (by rw [h0 n (by omega) (by omega)]; decide)]
        omega
  constructor
  · intro x hx
    rw [hs.1 x hx, ext _ mu' hm (Nat.le_refl _)]
    refine cg_sum_congr mu (fun _ _ => rfl) (fun c hc _ => ?_)
    show _ = (((K' c).2.2.2).count x : Int) - (((K' c).2.2.1).count x : Int)
    rw [hk c hc]
    rfl
  · intro u v
    rw [hs.2 u v, ext _ mu' hm (Nat.le_refl _)]
    congr 1
    refine cg_sum_congr mu (fun _ _ => rfl) (fun c hc _ => ?_)
    show _ = (cg_es u v (K' c).1 ((K' c).2.2.2 ++ [(K' c).2.1]) : Int) - (cg_es u v (K' c).1 ((K' c).2.2.1 ++ [(K' c).2.1]) : Int)
    rw [hk c hc]
    rfl
theorem cg_rm_ext {K K' : cg_K} {mu mu' : Nat} {a10 a11 a12 a13 : Nat → Int32} {r : Nat} {F : List Nat} (hr : cg_rm K mu a10 a11 a12 a13 r F) (hk : ∀ c, c < mu → K' c = K c) (hm : mu ≤ mu') (hm' : mu' ≤ 32) : cg_rm K' mu' a10 a11 a12 a13 r F := by
  obtain ⟨r1, r2, r3, r4, r5, r6, r7⟩ := hr
  exact ⟨r1, r2, r3, r4, r5, fun c h1 h2 => r6 c (by omega) h2, cg_sums_ext r7 hk hm (fun c h1 h2 => r6 c h1 (by omega))⟩
end
section
/-! ===== simple walks ===== -/
theorem cg_62 (r y : Nat) : (62 : Int32) * nI r + nI y = nI (62 * r + y) := by
  rw [show (62 : Int32) = nI 62 from rfl, pk_mul, nI_add]
theorem cg_62c {r y : Nat} (hr : r < 3) (hy : y < 62) : ((62 : Int32) * nI r + nI y).toNatClampNeg = 62 * r + y := by
  rw [cg_62, nI_clamp (by omega)]
theorem cg_62i {r y : Nat} (hr : r < 3) (hy : y < 62) : vp_in ((62 : Int32) * nI r + nI y) 186 :=
  pk_in (62 * r + y) 186 (by omega) (cg_62 r y)
theorem cg_20 (r y : Nat) : (20 : Int32) * nI r + nI y = nI (20 * r + y) := by
  rw [show (20 : Int32) = nI 20 from rfl, pk_mul, nI_add]
theorem cg_20c {r y : Nat} (hr : r < 3) (hy : y < 20) : ((20 : Int32) * nI r + nI y).toNatClampNeg = 20 * r + y := by
  rw [cg_20, nI_clamp (by omega)]
theorem cg_20i {r y : Nat} (hr : r < 3) (hy : y < 20) : vp_in ((20 : Int32) * nI r + nI y) 60 :=
  pk_in (20 * r + y) 60 (by omega) (cg_20 r y)
theorem cg_drop {F : List Nat} {i : Nat} (h : i < F.length) : cg_hd 61 (F.drop i) = F[i] := by
  rw [List.drop_eq_getElem_cons h]
  rfl
theorem cg_take {F : List Nat} {i : Nat} (h : i < F.length) : cg_la 60 (F.take (i + 1)) = F[i] := by
  rw [← List.take_append_getElem h, cg_la_app]
  rfl
theorem cg_dropE {F : List Nat} {i : Nat} (h : F.length ≤ i) : cg_hd 61 (F.drop i) = 61 := by
  rw [List.drop_of_length_le h]
  rfl
theorem cg_isRoom {post : Int32 → Prop} {r : Nat} (hr : r < 3) (hp : post 1) : wpX_isRoom post () (nI r) :=
  pk_lt r 0 (fun z => absurd z (by omega)) (fun _ => pk_le 3 r (fun z => absurd z (by omega)) (fun _ => hp))
theorem cg_lines {post : Int32 → Prop} {fu fm fl ft : Int32} {a1 a2 a3 a4 a5 a6 a7 a8 a9 a10 a11 a12 a13 a14 a15 a16 a17 a18 : Nat → Int32} {r : Nat} (hr : r < 3) (hp : post (a13 r)) : wpX_lines post (fu, fm, fl, ft, a1, a2, a3, a4, a5, a6, a7, a8, a9, a10, a11, a12, a13, a14, a15, a16, a17, a18) (nI r) := by
  unfold wpX_lines
  refine cg_isRoom hr (br_f (by decide) ⟨pk_in r 3 hr, ?_⟩)
  rw [nI_clamp (by omega)]
  exact hp
theorem cg_isChange {post : Int32 → Prop} {fu fm fl ft : Int32} {a1 a2 a3 a4 a5 a6 a7 a8 a9 a10 a11 a12 a13 a14 a15 a16 a17 a18 : Nat → Int32} {mu c : Nat} (hm : mu ≤ 16) (hc : c < 2 ^ 31) (hf : fm = nI mu) (h1 : c < mu → post 1) (h0 : mu ≤ c → post 0) : wpX_isChange post (fu, fm, fl, ft, a1, a2, a3, a4, a5, a6, a7, a8, a9, a10, a11, a12, a13, a14, a15, a16, a17, a18) (nI c) :=
  pk_lt c 0 (fun z => absurd z (by omega)) (fun _ => pk_le mu c h0 h1 (hx := hf))
theorem cg_holds {post : Int32 → Prop} {fu fm fl ft : Int32} {a1 a2 a3 a4 a5 a6 a7 a8 a9 a10 a11 a12 a13 a14 a15 a16 a17 a18 : Nat → Int32} {r c : Nat} (hr : r < 3) (hc : c < 32) (h1 : cg_bt (a10 r) c = true → post 1) (h0 : cg_bt (a10 r) c = false → post 0) : wpX_holds post (fu, fm, fl, ft, a1, a2, a3, a4, a5, a6, a7, a8, a9, a10, a11, a12, a13, a14, a15, a16, a17, a18) (nI r) (nI c) := by
  refine ⟨pk_in r 3 hr, ?_⟩
  rw [nI_clamp (by omega)]
  exact ek_if (cg_bit1 hc) h1 (fun z => h0 (by simpa using z))
/-- the row laid -/
def cg_rw (b : Nat → Int32) (F : List Nat) : Prop := ∀ (k : Nat) (h : k < F.length), b k = nI (F[k])
theorem cg_layRow {post : St1 → Prop} {fu fm fl ft : Int32} {a1 a2 a3 a4 a5 a6 a7 a8 a9 a10 a11 a12 a13 a14 a15 a16 a17 a18 : Nat → Int32} {r : Nat} {F : List Nat} (hr : r < 3) (hn : F.length ≤ 20) (h6 : ∀ x, x ∈ F → x < 60) (hs : a13 r = nI F.length) (hl : cg_ln a11 r 60 (F ++ [61]))
    (hp : ∀ b16, cg_rw b16 F → post (fu, fm, fl, ft, a1, a2, a3, a4, a5, a6, a7, a8, a9, a10, a11, a12, a13, a14, a15, b16, a17, a18)) : wpX_layRow post (fu, fm, fl, ft, a1, a2, a3, a4, a5, a6, a7, a8, a9, a10, a11, a12, a13, a14, a15, a16, a17, a18) (nI r) := by
  refine ⟨cg_62i (y := 60) hr (by omega), ?_⟩
  refine nm_r (e' := nI (cg_hd 61 (F.drop 0))) ?_ ?_
  · have := cg_ln_at (A := []) (B := F) hl rfl
    rw [show ((62 : Int32) * nI r + 60).toNatClampNeg = 62 * r + 60 from cg_62c (y := 60) hr (by omega)]
    exact this
  · refine pk_loop (fun n i s => wX_layRow_15 post (nI r) fu fm fl ft n (nI (cg_hd 61 (F.drop i))) (nI i) a1 a2 a3 a4 a5 a6 a7 a8 a9 a10 a11 a12 a13 a14 a15 s a17 a18) (fun i s => ∀ (k : Nat) (h : k < F.length), k < i → s k = nI (F[k])) F.length 0 a16 (by omega) (fun k _ hk => absurd hk (by omega)) ?_ ?_
    · intro n s h
      exact ⟨pk_in r 3 hr, pk_le F.length F.length (fun _ => hp s (fun k hk => h k hk hk)) (fun z => absurd z (by omega)) (hx := by rw [nI_clamp (by omega)]; exact hs)⟩
    · intro n i s hi h hw
      have hx6 := h6 F[i] (List.getElem_mem hi)
      have e1 : cg_hd 61 (F.drop i) = F[i] := cg_drop hi
      have e2 : a11 (62 * r + F[i]) = nI (cg_hd 61 (F.drop (i + 1))) := by
        have := cg_ln_at (A := F.take (i + 1)) (B := F.drop (i + 1)) hl (List.take_append_drop _ _).symm
        rw [cg_take hi] at this
        exact this
      show wX_layRow_15 post (nI r) fu fm fl ft (n + 1) (nI (cg_hd 61 (F.drop i))) (nI i) a1 a2 a3 a4 a5 a6 a7 a8 a9 a10 a11 a12 a13 a14 a15 s a17 a18
      rw [e1]
      refine ⟨pk_in r 3 hr, pk_le F.length i (fun z => absurd z (by omega)) (fun _ => ⟨pk_in i 20 (by omega), nm_e ⟨cg_62i hr (by omega), nm_r (by rw [cg_62c hr (by omega)]; exact e2) (nm_r (nI_1 i) (hw _ ?_))⟩⟩) (hx := by rw [nI_clamp (by omega)]; exact hs)⟩
      intro k hk hki
      rw [nI_clamp (by omega)]
      by_cases e : k = i
      · subst e
        exact pk_us
      · rw [pk_un e]
        exact h k hk (by omega)
/-- lines and sources at a place -/
def cg_lv (g : Nat → Int32) (F : List Nat) (k : Nat) : Int32 := match F[k]? with
  | some x => g x
  | none => -2
theorem cg_lv_in {g : Nat → Int32} {F : List Nat} {k : Nat} (h : k < F.length) : cg_lv g F k = g F[k] := by
  unfold cg_lv
  rw [List.getElem?_eq_getElem h]
theorem cg_lv_out {g : Nat → Int32} {F : List Nat} {k : Nat} (h : F.length ≤ k) : cg_lv g F k = -2 := by
  unfold cg_lv
  rw [List.getElem?_eq_none h]
theorem cg_lineAt {post : Int32 → St1 → Prop} {fu fm fl ft : Int32} {a1 a2 a3 a4 a5 a6 a7 a8 a9 a10 a11 a12 a13 a14 a15 a16 a17 a18 : Nat → Int32} {r k : Nat} {F : List Nat} (hr : r < 3) (hk : k < 2 ^ 31) (hn : F.length ≤ 20) (h6 : ∀ x, x ∈ F → x < 60) (hs : a13 r = nI F.length) (hl : cg_ln a11 r 60 (F ++ [61]))
    (hp1 : ∀ (h : k < F.length) b16, post (nI F[k]) (fu, fm, fl, ft, a1, a2, a3, a4, a5, a6, a7, a8, a9, a10, a11, a12, a13, a14, a15, b16, a17, a18)) (hp0 : F.length ≤ k → post (-1) (fu, fm, fl, ft, a1, a2, a3, a4, a5, a6, a7, a8, a9, a10, a11, a12, a13, a14, a15, a16, a17, a18)) : wpX_lineAt post (fu, fm, fl, ft, a1, a2, a3, a4, a5, a6, a7, a8, a9, a10, a11, a12, a13, a14, a15, a16, a17, a18) (nI r) (nI k) := by
  refine pk_lt k 0 (fun z => absurd z (by omega)) (fun _ => ⟨pk_in r 3 hr, pk_lt k F.length (fun z => cg_layRow hr hn h6 hs hl (fun b16 hb => ⟨pk_in k 20 (by omega), ?_⟩)) hp0 (hy := by rw [nI_clamp (by omega)]; exact hs)⟩)
  rw [nI_clamp (by omega), hb k z]
  exact hp1 z b16
theorem cg_line {post : Int32 → St1 → Prop} {fu fm fl ft : Int32} {a1 a2 a3 a4 a5 a6 a7 a8 a9 a10 a11 a12 a13 a14 a15 a16 a17 a18 : Nat → Int32} {r k : Nat} {F : List Nat} (hr : r < 3) (hk : k < 2 ^ 31) (hn : F.length ≤ 20) (h6 : ∀ x, x ∈ F → x < 60) (hs : a13 r = nI F.length) (hl : cg_ln a11 r 60 (F ++ [61]))
    (hp : ∀ b16, post (cg_lv a1 F k) (fu, fm, fl, ft, a1, a2, a3, a4, a5, a6, a7, a8, a9, a10, a11, a12, a13, a14, a15, b16, a17, a18)) : wpX_line post (fu, fm, fl, ft, a1, a2, a3, a4, a5, a6, a7, a8, a9, a10, a11, a12, a13, a14, a15, a16, a17, a18) (nI r) (nI k) := by
  unfold wpX_line
  refine cg_isRoom hr (br_f (by decide) (cg_lineAt hr hk hn h6 hs hl (fun h b16 => ?_) (fun h => br_f (by decide) ?_)))
  · have hx := h6 F[k] (List.getElem_mem h)
    refine br_t (nI_pos' (by omega)) ⟨pk_in F[k] 60 hx, ?_⟩
    rw [nI_clamp (by omega), ← cg_lv_in (g := a1) h]
    exact hp b16
  · rw [← cg_lv_out (g := a1) h]
    exact hp a16
theorem cg_source {post : Int32 → St1 → Prop} {fu fm fl ft : Int32} {a1 a2 a3 a4 a5 a6 a7 a8 a9 a10 a11 a12 a13 a14 a15 a16 a17 a18 : Nat → Int32} {r k : Nat} {F : List Nat} (hr : r < 3) (hk : k < 2 ^ 31) (hn : F.length ≤ 20) (h6 : ∀ x, x ∈ F → x < 60) (hs : a13 r = nI F.length) (hl : cg_ln a11 r 60 (F ++ [61]))
    (hp : ∀ b16, post (cg_lv a2 F k) (fu, fm, fl, ft, a1, a2, a3, a4, a5, a6, a7, a8, a9, a10, a11, a12, a13, a14, a15, b16, a17, a18)) : wpX_source post (fu, fm, fl, ft, a1, a2, a3, a4, a5, a6, a7, a8, a9, a10, a11, a12, a13, a14, a15, a16, a17, a18) (nI r) (nI k) := by
  unfold wpX_source
  refine cg_isRoom hr (br_f (by decide) (cg_lineAt hr hk hn h6 hs hl (fun h b16 => ?_) (fun h => br_f (by decide) ?_)))
  · have hx := h6 F[k] (List.getElem_mem h)
    refine br_t (nI_pos' (by omega)) ⟨pk_in F[k] 60 hx, ?_⟩
    rw [nI_clamp (by omega), ← cg_lv_in (g := a2) h]
    exact hp b16
  · rw [← cg_lv_out (g := a2) h]
    exact hp a16
theorem cg_text {post : Int32 → Prop} {fu fm fl ft : Int32} {a1 a2 a3 a4 a5 a6 a7 a8 a9 a10 a11 a12 a13 a14 a15 a16 a17 a18 : Nat → Int32} {r k m : Nat} (hr : r < 3) (hk : k < 2 ^ 31) (hm : m ≤ 20) (hs : a14 r = nI m) (hp1 : k < m → post (a15 (20 * r + k))) (hp0 : m ≤ k → post (-2)) : wpX_text post (fu, fm, fl, ft, a1, a2, a3, a4, a5, a6, a7, a8, a9, a10, a11, a12, a13, a14, a15, a16, a17, a18) (nI r) (nI k) := by
  unfold wpX_text
  refine cg_isRoom hr (br_f (by decide) (pk_lt k 0 (fun z => absurd z (by omega)) (fun _ => ⟨pk_in r 3 hr, pk_lt k m (fun z => ⟨cg_20i hr (by omega), ?_⟩) hp0 (hy := by rw [nI_clamp (by omega)]; exact hs)⟩)))
  rw [cg_20c hr (by omega)]
  exact hp1 z
theorem cg_has {post : Int32 → Prop} {fu fm fl ft : Int32} {a1 a2 a3 a4 a5 a6 a7 a8 a9 a10 a11 a12 a13 a14 a15 a16 a17 a18 : Nat → Int32} {r mu c : Nat} (hr : r < 3) (hm : mu ≤ 16) (hc : c < 16) (hf : fm = nI mu) (h2 : mu ≤ c → post (-2)) (h1 : c < mu → cg_bt (a10 r) c = true → post 1) (h0 : c < mu → cg_bt (a10 r) c = false → post 0) : wpX_has post (fu, fm, fl, ft, a1, a2, a3, a4, a5, a6, a7, a8, a9, a10, a11, a12, a13, a14, a15, a16, a17, a18) (nI r) (nI c) := by
  unfold wpX_has
  exact cg_isRoom hr (br_f (by decide) (cg_isChange hm (by omega) hf (fun z => br_f (by decide) (cg_holds hr (by omega) (fun q => br_f (by decide) (h1 z q)) (fun q => br_t rfl (h0 z q)))) (fun z => br_t rfl (h2 z))))
theorem cg_needs {post : Int32 → Prop} {fu fm fl ft : Int32} {a1 a2 a3 a4 a5 a6 a7 a8 a9 a10 a11 a12 a13 a14 a15 a16 a17 a18 : Nat → Int32} {mu c d : Nat} (hm : mu ≤ 16) (hc : c < 16) (hd : d < 16) (hf : fm = nI mu) (h2 : post (-2)) (h1 : c < mu → d < mu → cg_bt (a9 c) d = true → post 1) (h0 : post 0) : wpX_needs post (fu, fm, fl, ft, a1, a2, a3, a4, a5, a6, a7, a8, a9, a10, a11, a12, a13, a14, a15, a16, a17, a18) (nI c) (nI d) := by
  unfold wpX_needs
  refine cg_isChange hm (by omega) hf (fun z => br_f (by decide) (cg_isChange hm (by omega) hf (fun z2 => br_f (by decide) ⟨pk_in c 16 hc, ?_⟩) (fun _ => br_t rfl h2))) (fun _ => br_t rfl h2)
  rw [nI_clamp (by omega), cg_bit _ (by omega)]
  by_cases q : cg_bt (a9 c) d = true
  · rw [if_pos q]; exact h1 z z2 q
  · rw [if_neg q]; exact h0
theorem cg_agree {post : Int32 → Prop} {fu fm fl ft : Int32} {a1 a2 a3 a4 a5 a6 a7 a8 a9 a10 a11 a12 a13 a14 a15 a16 a17 a18 : Nat → Int32} {r i j x : Nat} (hr : r < 3) (hi : i < 20) (hj : j < 20) (hx : x < 60) (hrow : a16 i = nI x) (h1 : a1 x = a15 (20 * r + j) → post 1) (h0 : ¬ a1 x = a15 (20 * r + j) → post 0) : wpX_agree post (fu, fm, fl, ft, a1, a2, a3, a4, a5, a6, a7, a8, a9, a10, a11, a12, a13, a14, a15, a16, a17, a18) (nI r) (nI i) (nI j) := by
  refine ⟨pk_in i 20 hi, ?_⟩
  rw [nI_clamp (show i < 2 ^ 31 by omega), hrow]
  refine ⟨pk_in x 60 hx, cg_20i hr hj, ?_⟩
  rw [nI_clamp (show x < 2 ^ 31 by omega), cg_20c hr hj]
  exact br_c h1 h0
theorem cg_revert {post : Int32 → St1 → Prop} {fu fm fl ft : Int32} {a1 a2 a3 a4 a5 a6 a7 a8 a9 a10 a11 a12 a13 a14 a15 a16 a17 a18 : Nat → Int32} {r : Nat} {F : List Nat} (hr : r < 3) (hn : F.length ≤ 20) (h6 : ∀ x, x ∈ F → x < 60) (hs : a13 r = nI F.length) (hl : cg_ln a11 r 60 (F ++ [61]))
    (hp : ∀ b15 b16, (∀ (k : Nat) (h : k < F.length), b15 (20 * r + k) = a1 (F[k])) → post (nI F.length) (fu, fm, fl, ft, a1, a2, a3, a4, a5, a6, a7, a8, a9, a10, a11, a12, a13, upd a14 r (nI F.length), b15, b16, a17, a18)) : wpX_revert post (fu, fm, fl, ft, a1, a2, a3, a4, a5, a6, a7, a8, a9, a10, a11, a12, a13, a14, a15, a16, a17, a18) (nI r) := by
  unfold wpX_revert
  refine cg_isRoom hr (br_f (by decide) (cg_layRow hr hn h6 hs hl (fun b16 hb => ?_)))
  refine pk_loop (fun n i s => wX_revert_16 post (nI r) fu fm fl ft n (nI i) a1 a2 a3 a4 a5 a6 a7 a8 a9 a10 a11 a12 a13 a14 s b16 a17 a18) (fun i s => ∀ (k : Nat) (h : k < F.length), k < i → s (20 * r + k) = a1 (F[k])) F.length 0 a15 (by omega) (fun k _ hk => absurd hk (by omega)) ?_ ?_
  · intro n s h
    refine ⟨pk_in r 3 hr, pk_le F.length F.length (fun _ => ⟨pk_in r 3 hr, pk_in r 3 hr, nm_e ⟨pk_in r 3 hr, ?_⟩⟩) (fun z => absurd z (by omega)) (hx := by rw [nI_clamp (by omega)]; exact hs)⟩
    rw [nI_clamp (by omega), hs]
    exact hp s b16 (fun k hk => h k hk hk)
  · intro n i s hi h hw
    have hx := h6 F[i] (List.getElem_mem hi)
    have e1 : b16 (nI i).toNatClampNeg = nI F[i] := by rw [nI_clamp (by omega)]; exact hb i hi
    refine ⟨pk_in r 3 hr, pk_le F.length i (fun z => absurd z (by omega)) (fun _ => ⟨pk_in i 20 (by omega), pk_in F[i] 60 hx e1, cg_20i hr (by omega), nm_e (nm_r (nI_1 i) (hw _ ?_))⟩) (hx := by rw [nI_clamp (by omega)]; exact hs)⟩
    intro k hk hki
    rw [e1, cg_20c hr (by omega), nI_clamp (by omega)]
    by_cases e : k = i
    · subst e
      exact pk_us
    · rw [pk_un (by omega)]
      exact h k hk (by omega)
theorem cg_copyIsFile {post : Int32 → St1 → Prop} {fu fm fl ft : Int32} {a1 a2 a3 a4 a5 a6 a7 a8 a9 a10 a11 a12 a13 a14 a15 a16 a17 a18 : Nat → Int32} {r m : Nat} {F : List Nat} (hr : r < 3) (hn : F.length ≤ 20) (h6 : ∀ x, x ∈ F → x < 60) (hs : a13 r = nI F.length) (hl : cg_ln a11 r 60 (F ++ [61]))
    (hp : ∀ v b16, v = 0 ∨ v = 1 → post v (fu, fm, fl, ft, a1, a2, a3, a4, a5, a6, a7, a8, a9, a10, a11, a12, a13, a14, a15, b16, a17, a18)) : wpX_copyIsFile post (fu, fm, fl, ft, a1, a2, a3, a4, a5, a6, a7, a8, a9, a10, a11, a12, a13, a14, a15, a16, a17, a18) (nI r) := by
  refine ⟨pk_in r 3 hr, pk_in r 3 hr, br_c (fun _ => cg_layRow hr hn h6 hs hl (fun b16 hb => ?_)) (fun _ => hp 0 a16 (Or.inl rfl))⟩
  refine pk_loop (σ := Unit) (fun n i _ => wX_copyIsFile_24 post (nI r) fu fm fl ft a1 a2 a3 a4 a5 a6 a7 a8 a9 a10 a11 a12 a13 a14 a15 b16 a17 a18 n (nI i)) (fun _ _ => True) F.length 0 () (by omega) trivial ?_ ?_
  · intro n s h
    exact ⟨pk_in r 3 hr, pk_le F.length F.length (fun _ => hp 1 b16 (Or.inr rfl)) (fun z => absurd z (by omega)) (hx := by rw [nI_clamp (by omega)]; exact hs)⟩
  · intro n i s hi h hw
    have hx := h6 F[i] (List.getElem_mem hi)
    exact ⟨pk_in r 3 hr, pk_le F.length i (fun z => absurd z (by omega)) (fun _ => cg_agree hr (by omega) (by omega) hx (hb i hi) (fun _ => br_f (by decide) (nm_r (nI_1 i) (hw () trivial))) (fun _ => br_t rfl (hp 0 b16 (Or.inl rfl)))) (hx := by rw [nI_clamp (by omega)]; exact hs)⟩
theorem cg_refusal {post : Int32 → St1 → Prop} {fu fm fl ft : Int32} {a1 a2 a3 a4 a5 a6 a7 a8 a9 a10 a11 a12 a13 a14 a15 a16 a17 a18 : Nat → Int32} {r q c mu : Nat} {F : List Nat} (hr : r < 3) (hq : q < 3) (hm : mu ≤ 16) (hc : c < 16) (hf : fm = nI mu) (hn : F.length ≤ 20) (h6 : ∀ x, x ∈ F → x < 60) (hs : a13 r = nI F.length) (hl : cg_ln a11 r 60 (F ++ [61]))
    (hp0 : c < mu → cg_bt (a10 r) c = false → ∀ b16, post 0 (fu, fm, fl, ft, a1, a2, a3, a4, a5, a6, a7, a8, a9, a10, a11, a12, a13, a14, a15, b16, a17, a18)) (hpn : ∀ v b16, v < 0 → post v (fu, fm, fl, ft, a1, a2, a3, a4, a5, a6, a7, a8, a9, a10, a11, a12, a13, a14, a15, b16, a17, a18)) : wpX_refusal post (fu, fm, fl, ft, a1, a2, a3, a4, a5, a6, a7, a8, a9, a10, a11, a12, a13, a14, a15, a16, a17, a18) (nI r) (nI q) (nI c) := by
  unfold wpX_refusal
  refine cg_isRoom hr (br_f (by decide) (cg_isRoom hq (br_f (by decide) (cg_isChange hm (by omega) hf (fun z => br_f (by decide) ?_) (fun _ => br_t rfl (hpn _ a16 (by decide)))))))
  refine cg_holds hq (by omega) (fun _ => br_f (by decide) ?_) (fun _ => br_t rfl (hpn _ a16 (by decide)))
  refine cg_holds hr (by omega) (fun _ => br_f (by decide) (hpn _ a16 (by decide))) (fun hh => br_t rfl ?_)
  refine cg_copyIsFile (m := 0) hr hn h6 hs hl (fun v b16 hv => ?_)
  rcases hv with hv | hv
  · subst hv
    exact br_t rfl (hpn _ b16 (by decide))
  · subst hv
    exact br_f (by decide) (hp0 z hh b16)
/-! ===== comparing files ===== -/
theorem cg_sameFiles {post : Int32 → Prop} {fu fm fl ft : Int32} {a1 a2 a3 a4 a5 a6 a7 a8 a9 a10 a11 a12 a13 a14 a15 a16 a17 a18 : Nat → Int32} {p q : Nat} {F G : List Nat} (hp : p < 3) (hq : q < 3) (nF : F.length ≤ 20) (nG : G.length ≤ 20) (lF : ∀ x, x ∈ F → x < 60) (lG : ∀ x, x ∈ G → x < 60)
    (kF : cg_ln a11 p 60 (F ++ [61])) (kG : cg_ln a11 q 60 (G ++ [61])) (h1 : post 1) (h0 : F ≠ G → post 0) : wpX_sameFiles post (fu, fm, fl, ft, a1, a2, a3, a4, a5, a6, a7, a8, a9, a10, a11, a12, a13, a14, a15, a16, a17, a18) (nI p) (nI q) := by
  have main : ∀ d k, k + d = 21 → k ≤ F.length → k ≤ G.length → F.take k = G.take k → wX_sameFiles_6 post (nI p) (nI q) fu fm fl ft a1 a2 a3 a4 a5 a6 a7 a8 a9 a10 a11 a12 a13 a14 a15 a16 a17 a18 (d + 1) (nI (cg_la 60 (F.take k))) (nI k) := by
    intro d
    induction d with
    | zero => intro k h hk; exact absurd hk (by omega)
    | succ d ih =>
      intro k h kf kg hT
      have hx : cg_la 60 (F.take k) < 62 := by
        rcases List.mem_cons.mp (cg_la_mem (F.take k) 60) with z | z
        · omega
        · have := lF _ (List.mem_of_mem_take z); omega
      have e1 : a11 (62 * p + cg_la 60 (F.take k)) = nI (cg_hd 61 (F.drop k)) := cg_ln_at kF (List.take_append_drop _ _).symm
      have e2 : a11 (62 * q + cg_la 60 (F.take k)) = nI (cg_hd 61 (G.drop k)) := by
        rw [hT]; exact cg_ln_at kG (List.take_append_drop _ _).symm
      have b1 : cg_hd 61 (F.drop k) ≤ 61 := by
        rcases Nat.lt_or_ge k F.length with z | z
        · rw [cg_drop z]; have := lF _ (List.getElem_mem z); omega
        · rw [cg_dropE z]; omega
      have b2 : cg_hd 61 (G.drop k) ≤ 61 := by
        rcases Nat.lt_or_ge k G.length with z | z
        · rw [cg_drop z]; have := lG _ (List.getElem_mem z); omega
        · rw [cg_dropE z]; omega
      refine pk_lt 20 k (fun _ => h1) (fun _ => ⟨cg_62i hp hx, nm_r (e' := nI (cg_hd 61 (F.drop k))) (by rw [cg_62c hp hx]; exact e1) ⟨cg_62i hq hx, nm_r (e' := nI (cg_hd 61 (G.drop k))) (by rw [cg_62c hq hx]; exact e2) ?_⟩⟩)
      refine pk_eq (cg_hd 61 (F.drop k)) (cg_hd 61 (G.drop k)) (fun z => pk_eq (cg_hd 61 (F.drop k)) 61 (fun _ => h1) (fun y => nm_r (nI_1 k) ?_)) (fun z => h0 (fun q => z (by rw [q])))
      have kf' : k < F.length := by
        rcases Nat.lt_or_ge k F.length with w | w
        · exact w
        · exact absurd (cg_dropE w) y
      have kg' : k < G.length := by
        rcases Nat.lt_or_ge k G.length with w | w
        · exact w
        · rw [z] at y; exact absurd (cg_dropE w) y
      have ee : F[k] = G[k] := by rw [← cg_drop kf', ← cg_drop kg', z]
      have := ih (k + 1) (by omega) (by omega) (by omega) (by rw [← List.take_append_getElem kf', ← List.take_append_getElem kg', hT, ee])
      rw [cg_take kf', ← cg_drop kf'] at this
      exact this
  exact ⟨22, main 21 0 (by omega) (by omega) (by omega) rfl⟩
theorem cg_compare {post : Int32 → Prop} {fu fm fl ft : Int32} {a1 a2 a3 a4 a5 a6 a7 a8 a9 a10 a11 a12 a13 a14 a15 a16 a17 a18 : Nat → Int32} {p q : Nat} {F G : List Nat} (hp : p < 3) (hq : q < 3) (nF : F.length ≤ 20) (nG : G.length ≤ 20) (lF : ∀ x, x ∈ F → x < 60) (lG : ∀ x, x ∈ G → x < 60)
    (kF : cg_ln a11 p 60 (F ++ [61])) (kG : cg_ln a11 q 60 (G ++ [61])) (hu : a10 p = a10 q → F = G) (h : ∀ v, ¬ v = 2 → post v) : wpX_compare post (fu, fm, fl, ft, a1, a2, a3, a4, a5, a6, a7, a8, a9, a10, a11, a12, a13, a14, a15, a16, a17, a18) (nI p) (nI q) := by
  unfold wpX_compare
  refine cg_isRoom hp (br_f (by decide) (cg_isRoom hq (br_f (by decide) (cg_sameFiles hp hq nF nG lF lG kF kG ⟨pk_in p 3 hp, pk_in q 3 hq, ?_⟩ (fun z => ⟨pk_in p 3 hp, pk_in q 3 hq, ?_⟩)))))
  · exact br_c (fun _ => br_f (by decide) (h _ (by decide))) (fun _ => br_f (by decide) (h _ (by decide)))
  · rw [nI_clamp (by omega), nI_clamp (by omega)]
    exact br_f (fun q => z (hu q)) (br_t rfl (h _ (by decide)))
/-! ===== copies ===== -/
def cg_cs (a14 : Nat → Int32) (m : Nat → Nat) : Prop := ∀ r, r < 3 → a14 r = nI (m r) ∧ m r ≤ 20
theorem cg_cs_up {a14 : Nat → Int32} {m : Nat → Nat} (h : cg_cs a14 m) (r k : Nat) (hk : k ≤ 20) : cg_cs (upd a14 r (nI k)) (fun i => if i = r then k else m i) := by
  intro i hi
  by_cases e : i = r
  · subst e
    show upd a14 i (nI k) i = nI (if i = i then k else m i) ∧ (if i = i then k else m i) ≤ 20
    rw [pk_us, if_pos rfl]
    exact ⟨rfl, hk⟩
  · show upd a14 r (nI k) i = nI (if i = r then k else m i) ∧ (if i = r then k else m i) ≤ 20
    rw [pk_un e, if_neg e]
    exact h i hi
theorem cg_insert {post : Int32 → St1 → Prop} {fu fm fl ft : Int32} {a1 a2 a3 a4 a5 a6 a7 a8 a9 a10 a11 a12 a13 a14 a15 a16 a17 a18 : Nat → Int32} {r : Nat} {m : Nat → Nat} (hr : r < 3) (hc : cg_cs a14 m) (p t : Int32) (hp : ∀ v b14 b15 m', cg_cs b14 m' → post v (fu, fm, fl, ft, a1, a2, a3, a4, a5, a6, a7, a8, a9, a10, a11, a12, a13, b14, b15, a16, a17, a18)) : wpX_insert post (fu, fm, fl, ft, a1, a2, a3, a4, a5, a6, a7, a8, a9, a10, a11, a12, a13, a14, a15, a16, a17, a18) (nI r) p t := by
  unfold wpX_insert
  have hm := hc r hr
  have keep : ∀ v, post v (fu, fm, fl, ft, a1, a2, a3, a4, a5, a6, a7, a8, a9, a10, a11, a12, a13, a14, a15, a16, a17, a18) := fun v => hp v a14 a15 m hc
  refine cg_isRoom hr (br_f (by decide) (br_c (fun _ => keep _) (fun p0 => ⟨pk_in r 3 hr, br_c (fun hle => br_c (fun _ => keep _) (fun _ => br_c (fun _ => ⟨pk_in r 3 hr, ?_⟩) (fun _ => keep _))) (fun _ => keep _)⟩)))
  obtain ⟨j, hj, rfl⟩ := nI_of p0
  rw [nI_clamp (by omega), hm.1] at hle
  have hjm : j ≤ m r := (nI_leI hj (by omega)).mp hle
  rw [nI_clamp (by omega)]
  refine pk_lt (m r) 20 (fun hlt => nm_e ⟨pk_in r 3 hr, nm_r (e' := nI (m r)) hm.1 ?_⟩) (fun _ => keep _) (hx := hm.1)
  have main : ∀ d (s : Nat → Int32), j + d ≤ m r → wX_insert_67 post (nI r) (nI j) t (20 * nI r) fu fm fl ft (d + 1) (nI (j + d)) a1 a2 a3 a4 a5 a6 a7 a8 a9 a10 a11 a12 a13 a14 s a16 a17 a18 := by
    intro d
    induction d with
    | zero =>
      intro s h
      refine pk_le (j + 0) j (fun _ => ⟨cg_20i hr (by omega), nm_e ⟨pk_in r 3 hr, pk_in r 3 hr, nm_r (e' := upd a14 r (nI (m r + 1))) ?_ ⟨pk_in r 3 hr, hp _ _ _ _ (cg_cs_up hc r (m r + 1) (by omega))⟩⟩⟩) (fun z => absurd z (by omega))
      rw [nI_clamp (by omega), hm.1, nI_1]
    | succ d ih =>
      intro s h
      refine pk_le (j + (d + 1)) j (fun z => absurd z (by omega)) (fun _ => ⟨pk_in (20 * r + (j + d)) 60 (by omega) ?_, cg_20i hr (by omega), nm_e (nm_r (e' := nI (j + d)) ?_ (ih _ (by omega)))⟩)
      · rw [cg_20, show 20 * r + (j + (d + 1)) = (20 * r + (j + d)) + 1 by omega]
        exact nI_pred _
      · exact pk_m1 (j + d)
  refine ⟨m r - j + 1, ?_⟩
  have := main (m r - j) a15 (by omega)
  rw [show j + (m r - j) = m r by omega] at this
  exact this
theorem cg_delete {post : Int32 → St1 → Prop} {fu fm fl ft : Int32} {a1 a2 a3 a4 a5 a6 a7 a8 a9 a10 a11 a12 a13 a14 a15 a16 a17 a18 : Nat → Int32} {r : Nat} {m : Nat → Nat} (hr : r < 3) (hc : cg_cs a14 m) (p : Int32) (hp : ∀ v b14 b15 m', cg_cs b14 m' → post v (fu, fm, fl, ft, a1, a2, a3, a4, a5, a6, a7, a8, a9, a10, a11, a12, a13, b14, b15, a16, a17, a18)) : wpX_delete post (fu, fm, fl, ft, a1, a2, a3, a4, a5, a6, a7, a8, a9, a10, a11, a12, a13, a14, a15, a16, a17, a18) (nI r) p := by
  unfold wpX_delete
  have hm := hc r hr
  have keep : ∀ v, post v (fu, fm, fl, ft, a1, a2, a3, a4, a5, a6, a7, a8, a9, a10, a11, a12, a13, a14, a15, a16, a17, a18) := fun v => hp v a14 a15 m hc
  refine cg_isRoom hr (br_f (by decide) (br_c (fun _ => keep _) (fun p0 => ⟨pk_in r 3 hr, br_c (fun hlt => nm_e ?_) (fun _ => keep _)⟩)))
  obtain ⟨j, hj, rfl⟩ := nI_of p0
  rw [nI_clamp (by omega), hm.1] at hlt
  have hjm : j < m r := (nI_ltI hj (by omega)).mp hlt
  have ec : upd a14 (nI r).toNatClampNeg (a14 (nI r).toNatClampNeg - 1) = upd a14 r (nI (m r - 1)) := by
    rw [nI_clamp (by omega), hm.1, show (nI (m r) : Int32) = nI ((m r - 1) + 1) by rw [show m r - 1 + 1 = m r by omega], nI_pred]
  have hc' := cg_cs_up hc r (m r - 1) (by omega)
  refine ⟨cg_20i hr (by omega), nm_e ⟨pk_in r 3 hr, pk_in r 3 hr, nm_r ec ?_⟩⟩
  generalize a15 (20 * nI r + nI j).toNatClampNeg = v
  have main : ∀ d k (s : Nat → Int32), k + d = m r - 1 → wX_delete_54 post (nI r) (20 * nI r) v fu fm fl ft (d + 1) (nI k) a1 a2 a3 a4 a5 a6 a7 a8 a9 a10 a11 a12 a13 (upd a14 r (nI (m r - 1))) s a16 a17 a18 := by
    intro d
    induction d with
    | zero =>
      intro k s h
      exact ⟨pk_in r 3 hr, pk_le (m r - 1) k (fun _ => hp _ _ _ _ hc') (fun z => absurd z (by omega)) (hx := by rw [nI_clamp (by omega)]; exact pk_us)⟩
    | succ d ih =>
      intro k s h
      refine ⟨pk_in r 3 hr, pk_le (m r - 1) k (fun z => absurd z (by omega)) (fun _ => ⟨pk_in (20 * r + k + 1) 60 (by omega) ?_, cg_20i hr (by omega), nm_e (nm_r (nI_1 k) (ih (k + 1) _ (by omega)))⟩) (hx := by rw [nI_clamp (by omega)]; exact pk_us)⟩
      rw [cg_20, nI_1]
  exact ⟨m r - 1 - j + 1, main (m r - 1 - j) j a15 (by omega)⟩
end
section
/-! ===== changes made and taken back ===== -/
theorem cg_dropc {L l : List Nat} {k x : Nat} (h : L.drop k = x :: l) : ∃ hk : k < L.length, L[k] = x ∧ L.drop (k + 1) = l := by
  have hk : k < L.length := by
    rcases Nat.lt_or_ge k L.length with z | z
    · exact z
    · rw [List.drop_of_length_le z] at h; exact absurd h (by simp)
  rw [List.drop_eq_getElem_cons hk] at h
  have := List.cons.inj h
  exact ⟨hk, this.1, this.2⟩
theorem cg_dropn {L : List Nat} {k : Nat} (h : L.drop k = []) : L.length ≤ k := List.drop_eq_nil_iff.mp h
theorem cg_rg {l : List Nat} {p : Nat} (e : l = List.range' p l.length) (k : Nat) (h : k < l.length) : l[k] = p + k := by
  have := List.getElem_of_eq e h
  rw [this, List.getElem_range']
  omega
theorem cg_len3 (a t p b : Nat) : nI (a + t + b) + (nI p - nI t) = nI (a + p + b) := by
  have e1 : nI (a + t + b) = nI (a + b) + nI t := by rw [nI_add, show a + b + t = a + t + b by omega]
  have e2 : nI (a + p + b) = nI (a + b) + nI p := by rw [nI_add, show a + b + p = a + p + b by omega]
  rw [e1, e2]
  generalize nI (a + b) = x
  generalize nI p = y
  generalize nI t = z
  grind
theorem cg_len4 (a t p b : Nat) : nI (a + t + b) + nI p - nI t = nI (a + p + b) := by
  have := cg_len3 a t p b
  rw [← this]
  generalize nI (a + t + b) = x
  generalize nI p = y
  generalize nI t = z
  grind
theorem cg_b60 {F : List Nat} {x : Nat} (h6 : ∀ y, y ∈ F → y < 60) (h : x ∈ 60 :: F) : x < 62 := by
  rcases List.mem_cons.mp h with z | z
  · omega
  · have := h6 x z; omega
theorem cg_hd61 {F B A : List Nat} (h6 : ∀ y, y ∈ F → y < 60) (e : F = A ++ B) : cg_hd 61 B ≤ 61 := by
  cases B with
  | nil => exact Nat.le_refl _
  | cons x B =>
    have : x < 60 := h6 x (by rw [e]; simp)
    show x ≤ 61
    omega
theorem cg_tk1 {L : List Nat} {k : Nat} (A B : List Nat) (h : k < L.length) : (A ++ L.take (k + 1)) ++ B = (A ++ L.take k) ++ L[k] :: B := by
  rw [← List.take_append_getElem h]
  simp only [List.append_assoc, List.singleton_append]
theorem cg_runStands {post : Int32 → Prop} {fu fm fl ft : Int32} {a1 a2 a3 a4 a5 a6 a7 a8 a9 a10 a11 a12 a13 a14 a15 a16 a17 a18 : Nat → Int32} {K : cg_K} {us mu r c : Nat} {F : List Nat} (hr : r < 3) (ht : cg_tab K us mu fu fm a3 a4 a5 a6 a7 a8) (hc : c < mu) (h6 : ∀ x, x ∈ F → x < 60) (hl : cg_ln a11 r 60 (F ++ [61]))
    (hin : ∀ x, x < 62 → (a12 (62 * r + x) ≠ 0 ↔ x ∈ 60 :: (F ++ [61])))
    (h1 : ∀ A B, F = A ++ cg_kT K c ++ B → cg_la 60 A = cg_kb K c → cg_hd 61 B = cg_ke K c → post 1) (h0 : post 0) : wpX_runStands post (fu, fm, fl, ft, a1, a2, a3, a4, a5, a6, a7, a8, a9, a10, a11, a12, a13, a14, a15, a16, a17, a18) (nI r) (nI c) := by
  obtain ⟨_, _, _, hm, hrow, _⟩ := ht
  obtain ⟨e3, b3, e4, b4, ⟨p, e5, eP, bP⟩, e6, e7, b7, e8, nT, lT⟩ := hrow c hc
  refine nm_e ⟨pk_in c 16 (by omega), nm_r (e' := nI (cg_kb K c)) (by rw [nI_clamp (by omega)]; exact e3) ⟨cg_62i hr (by omega), br_c (fun _ => h0) (fun hne => ?_)⟩⟩
  rw [cg_62c hr (by omega)] at hne
  have hmem := (hin (cg_kb K c) (by omega)).mp hne
  have hmem2 : cg_kb K c ∈ 60 :: F := by
    rcases List.mem_cons.mp hmem with z | z
    · rw [z]; exact List.mem_cons_self
    · rcases List.mem_append.mp z with z | z
      · exact List.mem_cons_of_mem _ z
      · have := List.mem_singleton.mp z; omega
  obtain ⟨A, B, eF, eA⟩ := cg_find hmem2
  have main : ∀ d k B', k + d = (cg_kT K c).length → F = (A ++ (cg_kT K c).take k) ++ B' → wX_runStands_30 post (nI c) (62 * nI r) fu fm fl ft a1 a2 a3 a4 a5 a6 a7 a8 a9 a10 a11 a12 a13 a14 a15 a16 a17 a18 (d + 1) (nI (cg_la 60 (A ++ (cg_kT K c).take k))) (nI k) := by
    intro d
    induction d with
    | zero =>
      intro k B' hk hF
      have hat : cg_la 60 (A ++ (cg_kT K c).take k) < 62 := cg_b60 h6 (by
        rcases List.mem_cons.mp (cg_la_mem (A ++ (cg_kT K c).take k) 60) with z | z
        · rw [z]; exact List.mem_cons_self
        · exact List.mem_cons_of_mem _ (by rw [hF]; exact List.mem_append_left _ z))
      have hlk := cg_ln_at hl hF
      refine ⟨pk_in c 16 (by omega), pk_le (cg_kT K c).length k (fun _ => ⟨cg_62i hr hat, pk_in c 16 (by omega), pk_eq (cg_hd 61 B') (cg_ke K c) (fun z => ?_) (fun _ => h0) (hx := by rw [cg_62c hr hat]; exact hlk) (hy := by rw [nI_clamp (by omega)]; exact e4) (ha := by have := cg_hd61 h6 hF; omega)⟩) (fun z => absurd z (by omega)) (hx := by rw [nI_clamp (by omega)]; exact e7)⟩
      rw [List.take_of_length_le (by omega)] at hF
      exact h1 A B' hF eA z
    | succ d ih =>
      intro k B' hk hF
      have hat : cg_la 60 (A ++ (cg_kT K c).take k) < 62 := cg_b60 h6 (by
        rcases List.mem_cons.mp (cg_la_mem (A ++ (cg_kT K c).take k) 60) with z | z
        · rw [z]; exact List.mem_cons_self
        · exact List.mem_cons_of_mem _ (by rw [hF]; exact List.mem_append_left _ z))
      have hlk := cg_ln_at hl hF
      have hkl : k < (cg_kT K c).length := by omega
      have hT6 := lT _ (List.getElem_mem hkl)
      refine ⟨pk_in c 16 (by omega), pk_le (cg_kT K c).length k (fun z => absurd z (by omega)) (fun _ => ⟨pk_in (20 * c + k) 320 (by omega) (cg_20 c k), nm_r (e' := nI (cg_kT K c)[k]) (by rw [cg_20, nI_clamp (by omega)]; exact e8 k hkl) ⟨cg_62i hr hat, pk_eq (cg_hd 61 B') (cg_kT K c)[k] (fun z => nm_r (nI_1 k) ?_) (fun _ => h0) (hx := by rw [cg_62c hr hat]; exact hlk) (ha := by have := cg_hd61 h6 hF; omega)⟩⟩) (hx := by rw [nI_clamp (by omega)]; exact e7)⟩
      cases B' with
      | nil => exact absurd (show 61 = (cg_kT K c)[k] from z) (by omega)
      | cons x B' =>
        have hx : x = (cg_kT K c)[k] := z
        have eT : (A ++ (cg_kT K c).take (k + 1)) ++ B' = (A ++ (cg_kT K c).take k) ++ x :: B' := by
          rw [hx]; exact cg_tk1 A B' hkl
        have := ih (k + 1) B' (by omega) (by rw [eT]; exact hF)
        have el : cg_la 60 (A ++ (cg_kT K c).take (k + 1)) = (cg_kT K c)[k] := by
          rw [← List.take_append_getElem hkl, ← List.append_assoc, cg_la_app]; rfl
        rw [el] at this
        exact this
  have := main (cg_kT K c).length 0 B (by omega) (by simpa using eF)
  rw [List.take_zero, List.append_nil, eA] at this
  exact ⟨_, this⟩
theorem cg_runAfterStands {post : Int32 → Prop} {fu fm fl ft : Int32} {a1 a2 a3 a4 a5 a6 a7 a8 a9 a10 a11 a12 a13 a14 a15 a16 a17 a18 : Nat → Int32} {K : cg_K} {us mu r c : Nat} {F : List Nat} (hr : r < 3) (ht : cg_tab K us mu fu fm a3 a4 a5 a6 a7 a8) (hc : c < mu) (h6 : ∀ x, x ∈ F → x < 60) (hl : cg_ln a11 r 60 (F ++ [61]))
    (hin : ∀ x, x < 62 → (a12 (62 * r + x) ≠ 0 ↔ x ∈ 60 :: (F ++ [61])))
    (h1 : ∀ A B, F = A ++ cg_kP K c ++ B → cg_la 60 A = cg_kb K c → cg_hd 61 B = cg_ke K c → post 1) (h0 : post 0) : wpX_runAfterStands post (fu, fm, fl, ft, a1, a2, a3, a4, a5, a6, a7, a8, a9, a10, a11, a12, a13, a14, a15, a16, a17, a18) (nI r) (nI c) := by
  obtain ⟨_, hu, _, hm, hrow, _⟩ := ht
  obtain ⟨e3, b3, e4, b4, ⟨p, e5, eP, bP⟩, e6, e7, b7, e8, nT, lT⟩ := hrow c hc
  refine nm_e ⟨pk_in c 16 (by omega), nm_r (e' := nI (cg_kb K c)) (by rw [nI_clamp (by omega)]; exact e3) ⟨cg_62i hr (by omega), br_c (fun _ => h0) (fun hne => ?_)⟩⟩
  rw [cg_62c hr (by omega)] at hne
  have hmem := (hin (cg_kb K c) (by omega)).mp hne
  have hmem2 : cg_kb K c ∈ 60 :: F := by
    rcases List.mem_cons.mp hmem with z | z
    · rw [z]; exact List.mem_cons_self
    · rcases List.mem_append.mp z with z | z
      · exact List.mem_cons_of_mem _ z
      · have := List.mem_singleton.mp z; omega
  obtain ⟨A, B, eF, eA⟩ := cg_find hmem2
  have main : ∀ d k B', k + d = (cg_kP K c).length → F = (A ++ (cg_kP K c).take k) ++ B' → wX_runAfterStands_30 post (nI c) (62 * nI r) fu fm fl ft a1 a2 a3 a4 a5 a6 a7 a8 a9 a10 a11 a12 a13 a14 a15 a16 a17 a18 (d + 1) (nI (cg_la 60 (A ++ (cg_kP K c).take k))) (nI k) := by
    intro d
    induction d with
    | zero =>
      intro k B' hk hF
      have hat : cg_la 60 (A ++ (cg_kP K c).take k) < 62 := cg_b60 h6 (by
        rcases List.mem_cons.mp (cg_la_mem (A ++ (cg_kP K c).take k) 60) with z | z
        · rw [z]; exact List.mem_cons_self
        · exact List.mem_cons_of_mem _ (by rw [hF]; exact List.mem_append_left _ z))
      have hlk := cg_ln_at hl hF
      refine ⟨pk_in c 16 (by omega), pk_le (cg_kP K c).length k (fun _ => ⟨cg_62i hr hat, pk_in c 16 (by omega), pk_eq (cg_hd 61 B') (cg_ke K c) (fun z => ?_) (fun _ => h0) (hx := by rw [cg_62c hr hat]; exact hlk) (hy := by rw [nI_clamp (by omega)]; exact e4) (ha := by have := cg_hd61 h6 hF; omega)⟩) (fun z => absurd z (by omega)) (hx := by rw [nI_clamp (by omega)]; exact e6)⟩
      rw [List.take_of_length_le (by omega)] at hF
      exact h1 A B' hF eA z
    | succ d ih =>
      intro k B' hk hF
      have hat : cg_la 60 (A ++ (cg_kP K c).take k) < 62 := cg_b60 h6 (by
        rcases List.mem_cons.mp (cg_la_mem (A ++ (cg_kP K c).take k) 60) with z | z
        · rw [z]; exact List.mem_cons_self
        · exact List.mem_cons_of_mem _ (by rw [hF]; exact List.mem_append_left _ z))
      have hlk := cg_ln_at hl hF
      have hkl : k < (cg_kP K c).length := by omega
      have hPk := cg_rg eP k hkl
      refine ⟨pk_in c 16 (by omega), pk_le (cg_kP K c).length k (fun z => absurd z (by omega)) (fun _ => ⟨pk_in c 16 (by omega), nm_r (e' := nI (cg_kP K c)[k]) (by rw [nI_clamp (by omega), e5, nI_add, hPk]) ⟨cg_62i hr hat, pk_eq (cg_hd 61 B') (cg_kP K c)[k] (fun z => nm_r (nI_1 k) ?_) (fun _ => h0) (hx := by rw [cg_62c hr hat]; exact hlk) (ha := by have := cg_hd61 h6 hF; omega) (hb := by omega)⟩⟩) (hx := by rw [nI_clamp (by omega)]; exact e6)⟩
      cases B' with
      | nil => exact absurd (show 61 = (cg_kP K c)[k] from z) (by omega)
      | cons x B' =>
        have hx : x = (cg_kP K c)[k] := z
        have eT : (A ++ (cg_kP K c).take (k + 1)) ++ B' = (A ++ (cg_kP K c).take k) ++ x :: B' := by
          rw [hx]; exact cg_tk1 A B' hkl
        have := ih (k + 1) B' (by omega) (by rw [eT]; exact hF)
        have el : cg_la 60 (A ++ (cg_kP K c).take (k + 1)) = (cg_kP K c)[k] := by
          rw [← List.take_append_getElem hkl, ← List.append_assoc, cg_la_app]; rfl
        rw [el] at this
        exact this
  have := main (cg_kP K c).length 0 B (by omega) (by simpa using eF)
  rw [List.take_zero, List.append_nil, eA] at this
  exact ⟨_, this⟩
theorem cg_make0 {post : St1 → Prop} {fu fm fl ft : Int32} {a1 a2 a3 a4 a5 a6 a7 a8 a9 a10 a11 a12 a13 a14 a15 a16 a17 a18 : Nat → Int32} {K : cg_K} {us mu r c : Nat} (hr : r < 3) (ht : cg_tab K us mu fu fm a3 a4 a5 a6 a7 a8) (hc : c < mu)
    (hp : post (fu, fm, fl, ft, a1, a2, a3, a4, a5, a6, a7, a8, a9, upd a10 r (a10 r ||| ((1 : Int32) <<< (nI c &&& 31))), cg_lay r a11 (cg_kb K c) (cg_kP K c ++ [cg_ke K c]), cg_on r 1 (cg_on r 0 a12 (cg_kT K c)) (cg_kP K c), upd a13 r (a13 r + (nI (cg_kP K c).length - nI (cg_kT K c).length)), a14, a15, a16, a17, a18)) :
    wpX_makeChange post (fu, fm, fl, ft, a1, a2, a3, a4, a5, a6, a7, a8, a9, a10, a11, a12, a13, a14, a15, a16, a17, a18) (nI r) (nI c) := by
  obtain ⟨_, hu, _, hm, hrow, _⟩ := ht
  obtain ⟨e3, b3, e4, b4, ⟨p, e5, eP, bP⟩, e6, e7, b7, e8, nT, lT⟩ := hrow c hc
  have cc : (nI c).toNatClampNeg = c := nI_clamp (by omega)
  have cr : (nI r).toNatClampNeg = r := nI_clamp (by omega)
  have m56 : ∀ l k at' (g h : Nat → Int32), (cg_kP K c).drop k = l → k + l.length = (cg_kP K c).length → at' < 62 →
      post (fu, fm, fl, ft, a1, a2, a3, a4, a5, a6, a7, a8, a9, upd a10 r (a10 r ||| ((1 : Int32) <<< (nI c &&& 31))), cg_lay r g at' (l ++ [cg_ke K c]), cg_on r 1 h l, upd a13 r (a13 r + (nI (cg_kP K c).length - nI (cg_kT K c).length)), a14, a15, a16, a17, a18) →
      wX_makeChange_56 post (nI r) (nI c) (62 * nI r) fu fm fl ft (l.length + 1) (nI at') (nI k) a1 a2 a3 a4 a5 a6 a7 a8 a9 a10 g h a13 a14 a15 a16 a17 a18 := by
    intro l
    induction l with
    | nil =>
      intro k at' g h hk hkk hat hq
      have hk' : k = (cg_kP K c).length := hkk
      exact ⟨pk_in c 16 (by omega), pk_le (cg_kP K c).length k (fun _ => ⟨pk_in c 16 (by omega), cg_62i hr hat, nm_r (e' := upd g (62 * r + at') (nI (cg_ke K c))) (by rw [cc, e4, cg_62c hr hat]) ⟨pk_in r 3 hr, pk_in c 16 (by omega), pk_in c 16 (by omega), pk_in r 3 hr, nm_r (e' := upd a13 r (a13 r + (nI (cg_kP K c).length - nI (cg_kT K c).length))) (by rw [cc, cr, e6, e7]) ⟨pk_in r 3 hr, pk_in r 3 hr, nm_r (e' := upd a10 r (a10 r ||| ((1 : Int32) <<< (nI c &&& 31)))) (by rw [cr]) hq⟩⟩⟩) (fun z => absurd z (by omega)) (hx := by rw [cc]; exact e6)⟩
    | cons x l ih =>
      intro k at' g h hk hkk hat hq
      rw [List.length_cons] at hkk
      obtain ⟨hkl, hx, hd⟩ := cg_dropc hk
      have hPk := cg_rg eP k hkl
      refine ⟨pk_in c 16 (by omega), pk_le (cg_kP K c).length k (fun z => absurd z (by omega)) (fun _ => ⟨pk_in c 16 (by omega), nm_r (e' := nI x) (by rw [cc, e5, nI_add, ← hPk, hx]) ⟨cg_62i hr (by omega), nm_r (e' := upd h (62 * r + x) 1) (by rw [cg_62c hr (by omega)]) ⟨cg_62i hr hat, nm_r (e' := upd g (62 * r + at') (nI x)) (by rw [cg_62c hr hat]) (nm_r (nI_1 k) (ih (k + 1) x _ _ hd (by omega) (by omega) hq))⟩⟩⟩) (hx := by rw [cc]; exact e6)⟩
  have m8 : ∀ l k (g : Nat → Int32), (cg_kT K c).drop k = l → k + l.length = (cg_kT K c).length →
      post (fu, fm, fl, ft, a1, a2, a3, a4, a5, a6, a7, a8, a9, upd a10 r (a10 r ||| ((1 : Int32) <<< (nI c &&& 31))), cg_lay r a11 (cg_kb K c) (cg_kP K c ++ [cg_ke K c]), cg_on r 1 (cg_on r 0 g l) (cg_kP K c), upd a13 r (a13 r + (nI (cg_kP K c).length - nI (cg_kT K c).length)), a14, a15, a16, a17, a18) →
      wX_makeChange_8 post (nI r) (nI c) (62 * nI r) fu fm fl ft (l.length + 1) (nI k) a1 a2 a3 a4 a5 a6 a7 a8 a9 a10 a11 g a13 a14 a15 a16 a17 a18 := by
    intro l
    induction l with
    | nil =>
      intro k g hk hkk hq
      have hk' : k = (cg_kT K c).length := hkk
      exact ⟨pk_in c 16 (by omega), pk_le (cg_kT K c).length k (fun _ => ⟨pk_in c 16 (by omega), nm_r (e' := nI (cg_kb K c)) (by rw [cc]; exact e3) ⟨_, m56 _ 0 (cg_kb K c) a11 g rfl (by simp) (by omega) hq⟩⟩) (fun z => absurd z (by omega)) (hx := by rw [cc]; exact e7)⟩
    | cons x l ih =>
      intro k g hk hkk hq
      rw [List.length_cons] at hkk
      obtain ⟨hkl, hx, hd⟩ := cg_dropc hk
      have hx6 := lT _ (List.getElem_mem hkl)
      have e8' : a8 ((20 : Int32) * nI c + nI k).toNatClampNeg = nI x := by rw [cg_20, nI_clamp (by omega), e8 k hkl, hx]
      refine ⟨pk_in c 16 (by omega), pk_le (cg_kT K c).length k (fun z => absurd z (by omega)) (fun _ => ⟨pk_in (20 * c + k) 320 (by omega) (cg_20 c k), ?_⟩) (hx := by rw [cc]; exact e7)⟩
      rw [e8']
      exact ⟨cg_62i hr (by omega), nm_r (e' := upd g (62 * r + x) 0) (by rw [cg_62c hr (by omega)]) (nm_r (nI_1 k) (ih (k + 1) _ hd (by omega) hq))⟩
  exact nm_e ⟨_, m8 _ 0 a12 rfl (by simp) hp⟩
theorem cg_back0 {post : St1 → Prop} {fu fm fl ft : Int32} {a1 a2 a3 a4 a5 a6 a7 a8 a9 a10 a11 a12 a13 a14 a15 a16 a17 a18 : Nat → Int32} {K : cg_K} {us mu r c : Nat} (hr : r < 3) (ht : cg_tab K us mu fu fm a3 a4 a5 a6 a7 a8) (hc : c < mu)
    (hp : post (fu, fm, fl, ft, a1, a2, a3, a4, a5, a6, a7, a8, a9, upd a10 r (a10 r &&& (((1 : Int32) <<< (nI c &&& 31)) ^^^ (-1))), cg_lay r a11 (cg_kb K c) (cg_kT K c ++ [cg_ke K c]), cg_on r 1 (cg_on r 0 a12 (cg_kP K c)) (cg_kT K c), upd a13 r (a13 r + (nI (cg_kT K c).length - nI (cg_kP K c).length)), a14, a15, a16, a17, a18)) :
    wpX_takeBack post (fu, fm, fl, ft, a1, a2, a3, a4, a5, a6, a7, a8, a9, a10, a11, a12, a13, a14, a15, a16, a17, a18) (nI r) (nI c) := by
  obtain ⟨_, hu, _, hm, hrow, _⟩ := ht
  obtain ⟨e3, b3, e4, b4, ⟨p, e5, eP, bP⟩, e6, e7, b7, e8, nT, lT⟩ := hrow c hc
  have cc : (nI c).toNatClampNeg = c := nI_clamp (by omega)
  have cr : (nI r).toNatClampNeg = r := nI_clamp (by omega)
  have m53 : ∀ l k at' (g h : Nat → Int32), (cg_kT K c).drop k = l → k + l.length = (cg_kT K c).length → at' < 62 →
      post (fu, fm, fl, ft, a1, a2, a3, a4, a5, a6, a7, a8, a9, upd a10 r (a10 r &&& (((1 : Int32) <<< (nI c &&& 31)) ^^^ (-1))), cg_lay r g at' (l ++ [cg_ke K c]), cg_on r 1 h l, upd a13 r (a13 r + (nI (cg_kT K c).length - nI (cg_kP K c).length)), a14, a15, a16, a17, a18) →
      wX_takeBack_53 post (nI r) (nI c) (62 * nI r) fu fm fl ft (l.length + 1) (nI at') (nI k) a1 a2 a3 a4 a5 a6 a7 a8 a9 a10 g h a13 a14 a15 a16 a17 a18 := by
    intro l
    induction l with
    | nil =>
      intro k at' g h hk hkk hat hq
      have hk' : k = (cg_kT K c).length := hkk
      exact ⟨pk_in c 16 (by omega), pk_le (cg_kT K c).length k (fun _ => ⟨pk_in c 16 (by omega), cg_62i hr hat, nm_r (e' := upd g (62 * r + at') (nI (cg_ke K c))) (by rw [cc, e4, cg_62c hr hat]) ⟨pk_in r 3 hr, pk_in c 16 (by omega), pk_in c 16 (by omega), pk_in r 3 hr, nm_r (e' := upd a13 r (a13 r + (nI (cg_kT K c).length - nI (cg_kP K c).length))) (by rw [cc, cr, e6, e7]) ⟨pk_in r 3 hr, pk_in r 3 hr, nm_r (e' := upd a10 r (a10 r &&& (((1 : Int32) <<< (nI c &&& 31)) ^^^ (-1)))) (by rw [cr]) hq⟩⟩⟩) (fun z => absurd z (by omega)) (hx := by rw [cc]; exact e7)⟩
    | cons x l ih =>
      intro k at' g h hk hkk hat hq
      rw [List.length_cons] at hkk
      obtain ⟨hkl, hx, hd⟩ := cg_dropc hk
      have hx6 := lT _ (List.getElem_mem hkl)
      refine ⟨pk_in c 16 (by omega), pk_le (cg_kT K c).length k (fun z => absurd z (by omega)) (fun _ => ⟨pk_in (20 * c + k) 320 (by omega) (cg_20 c k), nm_r (e' := nI x) (by rw [cg_20, nI_clamp (by omega), e8 k hkl, hx]) ⟨cg_62i hr (by omega), nm_r (e' := upd h (62 * r + x) 1) (by rw [cg_62c hr (by omega)]) ⟨cg_62i hr hat, nm_r (e' := upd g (62 * r + at') (nI x)) (by rw [cg_62c hr hat]) (nm_r (nI_1 k) (ih (k + 1) x _ _ hd (by omega) (by omega) hq))⟩⟩⟩) (hx := by rw [cc]; exact e7)⟩
  have m8 : ∀ l k (g : Nat → Int32), (cg_kP K c).drop k = l → k + l.length = (cg_kP K c).length →
      post (fu, fm, fl, ft, a1, a2, a3, a4, a5, a6, a7, a8, a9, upd a10 r (a10 r &&& (((1 : Int32) <<< (nI c &&& 31)) ^^^ (-1))), cg_lay r a11 (cg_kb K c) (cg_kT K c ++ [cg_ke K c]), cg_on r 1 (cg_on r 0 g l) (cg_kT K c), upd a13 r (a13 r + (nI (cg_kT K c).length - nI (cg_kP K c).length)), a14, a15, a16, a17, a18) →
      wX_takeBack_8 post (nI r) (nI c) (62 * nI r) fu fm fl ft (l.length + 1) (nI k) a1 a2 a3 a4 a5 a6 a7 a8 a9 a10 a11 g a13 a14 a15 a16 a17 a18 := by
    intro l
    induction l with
    | nil =>
      intro k g hk hkk hq
      have hk' : k = (cg_kP K c).length := hkk
      exact ⟨pk_in c 16 (by omega), pk_le (cg_kP K c).length k (fun _ => ⟨pk_in c 16 (by omega), nm_r (e' := nI (cg_kb K c)) (by rw [cc]; exact e3) ⟨_, m53 _ 0 (cg_kb K c) a11 g rfl (by simp) (by omega) hq⟩⟩) (fun z => absurd z (by omega)) (hx := by rw [cc]; exact e6)⟩
    | cons x l ih =>
      intro k g hk hkk hq
      rw [List.length_cons] at hkk
      obtain ⟨hkl, hx, hd⟩ := cg_dropc hk
      have hPk := cg_rg eP k hkl
      have ei : (62 : Int32) * nI r + a5 (nI c).toNatClampNeg + nI k = nI (62 * r + x) := by
        rw [cc, e5, cg_62, nI_add, ← hx, hPk, Nat.add_assoc]
      refine ⟨pk_in c 16 (by omega), pk_le (cg_kP K c).length k (fun z => absurd z (by omega)) (fun _ => ⟨pk_in c 16 (by omega), pk_in (62 * r + x) 186 (by omega) ei, nm_r (e' := upd g (62 * r + x) 0) (by rw [ei, nI_clamp (by omega)]) (nm_r (nI_1 k) (ih (k + 1) _ hd (by omega) hq))⟩) (hx := by rw [cc]; exact e6)⟩
  exact nm_e ⟨_, m8 _ 0 a12 rfl (by simp) hp⟩
theorem cg_app_len (A T B : List Nat) : (A ++ T ++ B).length = A.length + T.length + B.length := by simp [Nat.add_assoc]
theorem cg_kP6 {K : cg_K} {us mu : Nat} {fu fm : Int32} {a3 a4 a5 a6 a7 a8 : Nat → Int32} (ht : cg_tab K us mu fu fm a3 a4 a5 a6 a7 a8) {c : Nat} (hc : c < mu) : ∀ x, x ∈ cg_kP K c → x < 60 := by
  intro x hx
  have := cg_kP_mem ht hc hx
  have := ht.2.1
  omega
theorem cg_make {post : St1 → Prop} {fu fm fl ft : Int32} {a1 a2 a3 a4 a5 a6 a7 a8 a9 a10 a11 a12 a13 a14 a15 a16 a17 a18 : Nat → Int32} {K : cg_K} {us mu r c : Nat} {A B : List Nat} (hr : r < 3) (ht : cg_tab K us mu fu fm a3 a4 a5 a6 a7 a8) (hc : c < mu)
    (hR : cg_rm K mu a10 a11 a12 a13 r (A ++ cg_kT K c ++ B)) (hb : cg_la 60 A = cg_kb K c) (he : cg_hd 61 B = cg_ke K c) (h0 : cg_bt (a10 r) c = false)
    (hp : ∀ b10 b11 b12 b13, cg_rm K mu b10 b11 b12 b13 r (A ++ cg_kP K c ++ B) → (∀ q G, q ≠ r → cg_rm K mu a10 a11 a12 a13 q G → cg_rm K mu b10 b11 b12 b13 q G) →
      (∀ d, d < 32 → cg_bt (b10 r) d = (cg_bt (a10 r) d || decide (d = c))) → post (fu, fm, fl, ft, a1, a2, a3, a4, a5, a6, a7, a8, a9, b10, b11, b12, b13, a14, a15, a16, a17, a18)) :
    wpX_makeChange post (fu, fm, fl, ft, a1, a2, a3, a4, a5, a6, a7, a8, a9, a10, a11, a12, a13, a14, a15, a16, a17, a18) (nI r) (nI c) := by
  have hm := ht.2.2.2.1
  have hrow := ht.2.2.2.2.1 c hc
  obtain ⟨e3, b3, e4, b4, ⟨p, e5, eP, bP⟩, e6, e7, b7, e8, nT, lT⟩ := hrow
  have hset : ∀ d, d < 32 → cg_bt (a10 r ||| ((1 : Int32) <<< (nI c &&& 31))) d = (cg_bt (a10 r) d || decide (d = c)) := fun d hd => cg_set (a10 r) (by omega) hd
  have hlen : a13 r + (nI (cg_kP K c).length - nI (cg_kT K c).length) = nI (A ++ cg_kP K c ++ B).length := by
    rw [hR.2.2.1, cg_app_len, cg_app_len, cg_len3]
  have hs : cg_sums (cg_bt (a10 r ||| ((1 : Int32) <<< (nI c &&& 31)))) K mu (A ++ cg_kP K c ++ B) := by
    refine cg_sums_make hR.2.2.2.2.2.2 hc h0 ?_ ?_ hb he
    · rw [hset c (by omega)]; simp
    · intro d hd hn
      rw [hset d (by omega), decide_eq_false hn, Bool.or_false]
  refine cg_make0 hr ht hc ?_
  rw [hlen]
  refine hp _ _ _ _ ?_ ?_ ?_
  · refine cg_rm_step hR hb he (cg_kP_nd ht hc) (cg_kP6 ht hc) (fun x hx => cg_outP ht hR.2.2.2.2.2.2 hc h0 hx) ?_ hs
    intro d h1 h2
    rw [hset d h2, hR.2.2.2.2.2.1 d h1 h2, decide_eq_false (by omega)]
    rfl
  · intro q G hq hG
    exact cg_rm_keep hq b3 (cg_kP6 ht hc) lT hG
  · intro d hd
    rw [pk_us]
    exact hset d hd
theorem cg_back {post : St1 → Prop} {fu fm fl ft : Int32} {a1 a2 a3 a4 a5 a6 a7 a8 a9 a10 a11 a12 a13 a14 a15 a16 a17 a18 : Nat → Int32} {K : cg_K} {us mu r c : Nat} {A B : List Nat} (hr : r < 3) (ht : cg_tab K us mu fu fm a3 a4 a5 a6 a7 a8) (hc : c < mu)
    (hR : cg_rm K mu a10 a11 a12 a13 r (A ++ cg_kP K c ++ B)) (hb : cg_la 60 A = cg_kb K c) (he : cg_hd 61 B = cg_ke K c) (h0 : cg_bt (a10 r) c = true)
    (hp : ∀ b10 b11 b12 b13, cg_rm K mu b10 b11 b12 b13 r (A ++ cg_kT K c ++ B) → (∀ q G, q ≠ r → cg_rm K mu a10 a11 a12 a13 q G → cg_rm K mu b10 b11 b12 b13 q G) →
      (∀ d, d < 32 → cg_bt (b10 r) d = (cg_bt (a10 r) d && !decide (d = c))) → post (fu, fm, fl, ft, a1, a2, a3, a4, a5, a6, a7, a8, a9, b10, b11, b12, b13, a14, a15, a16, a17, a18)) :
    wpX_takeBack post (fu, fm, fl, ft, a1, a2, a3, a4, a5, a6, a7, a8, a9, a10, a11, a12, a13, a14, a15, a16, a17, a18) (nI r) (nI c) := by
  have hm := ht.2.2.2.1
  have hrow := ht.2.2.2.2.1 c hc
  obtain ⟨e3, b3, e4, b4, ⟨p, e5, eP, bP⟩, e6, e7, b7, e8, nT, lT⟩ := hrow
  have hset : ∀ d, d < 32 → cg_bt (a10 r &&& (((1 : Int32) <<< (nI c &&& 31)) ^^^ (-1))) d = (cg_bt (a10 r) d && !decide (d = c)) := fun d hd => cg_clear (a10 r) (by omega) hd
  have hlen : a13 r + (nI (cg_kT K c).length - nI (cg_kP K c).length) = nI (A ++ cg_kT K c ++ B).length := by
    rw [hR.2.2.1, cg_app_len, cg_app_len, cg_len3]
  have hs : cg_sums (cg_bt (a10 r &&& (((1 : Int32) <<< (nI c &&& 31)) ^^^ (-1)))) K mu (A ++ cg_kT K c ++ B) := by
    refine cg_sums_back hR.2.2.2.2.2.2 hc h0 ?_ ?_ hb he
    · rw [hset c (by omega)]; simp
    · intro d hd hn
      rw [hset d (by omega), decide_eq_false hn]
      simp
  refine cg_back0 hr ht hc ?_
  rw [hlen]
  refine hp _ _ _ _ ?_ ?_ ?_
  · refine cg_rm_step hR hb he nT lT (fun x hx => cg_outT ht hR.2.2.2.2.2.2 hc h0 hx) ?_ hs
    intro d h1 h2
    rw [hset d h2, hR.2.2.2.2.2.1 d h1 h2]
    rfl
  · intro q G hq hG
    exact cg_rm_keep hq b3 lT (cg_kP6 ht hc) hG
  · intro d hd
    rw [pk_us]
    exact hset d hd
end
section
/-! ===== sets of changes made and taken back; pull, uncommit ===== -/
def cg_chn (K : cg_K) (st : Nat → Bool) (Gs : Nat → List Nat) (n : Nat) : Prop :=
  ∀ d, d < n → (st d = true → cg_stp K d (Gs d) (Gs (d + 1))) ∧ (st d = false → Gs (d + 1) = Gs d)
theorem cg_takeAllBack {post : St1 → Prop} {fu fm fl ft : Int32} {a1 a2 a3 a4 a5 a6 a7 a8 a9 a10 a11 a12 a13 a14 a15 a16 a17 a18 : Nat → Int32} {K : cg_K} {us mu r : Nat} {S : Int32} {Gs : Nat → List Nat} {h0 : Nat → Bool} (hr : r < 3) (ht : cg_tab K us mu fu fm a3 a4 a5 a6 a7 a8)
    (hch : cg_chn K (cg_bt S) Gs mu) (hno : ∀ d, d < mu → cg_bt S d = true → h0 d = false)
    (hR : cg_rm K mu a10 a11 a12 a13 r (Gs mu)) (hbits : ∀ d, d < 32 → cg_bt (a10 r) d = (h0 d || (cg_bt S d && decide (d < mu))))
    (hp : ∀ b10 b11 b12 b13, cg_rm K mu b10 b11 b12 b13 r (Gs 0) → (∀ q G, q ≠ r → cg_rm K mu a10 a11 a12 a13 q G → cg_rm K mu b10 b11 b12 b13 q G) →
      (∀ d, d < 32 → cg_bt (b10 r) d = h0 d) → post (fu, fm, fl, ft, a1, a2, a3, a4, a5, a6, a7, a8, a9, b10, b11, b12, b13, a14, a15, a16, a17, a18)) :
    wpX_takeAllBack post (fu, fm, fl, ft, a1, a2, a3, a4, a5, a6, a7, a8, a9, a10, a11, a12, a13, a14, a15, a16, a17, a18) (nI r) S := by
  have hfm := ht.2.2.1
  have hm := ht.2.2.2.1
  have main : ∀ k, k ≤ mu → ∀ b10 b11 b12 b13, cg_rm K mu b10 b11 b12 b13 r (Gs k) → (∀ q G, q ≠ r → cg_rm K mu a10 a11 a12 a13 q G → cg_rm K mu b10 b11 b12 b13 q G) →
      (∀ d, d < 32 → cg_bt (b10 r) d = (h0 d || (cg_bt S d && decide (d < k)))) → wX_takeAllBack_7 post (nI r) S (k + 1) (nI k + (-1)) fu fm fl ft a1 a2 a3 a4 a5 a6 a7 a8 a9 b10 b11 b12 b13 a14 a15 a16 a17 a18 := by
    intro k
    induction k with
    | zero =>
      intro _ b10 b11 b12 b13 hR hO hB
      exact br_t (by decide) (hp b10 b11 b12 b13 hR hO (fun d hd => by rw [hB d hd]; simp))
    | succ k ih =>
      intro hk b10 b11 b12 b13 hR hO hB
      rw [pk_m1]
      refine pk_lt k 0 (fun z => absurd z (by omega)) (fun _ => ek_if (cg_bit1 (by omega)) (fun hb => ?_) (fun hb => ?_))
      · obtain ⟨A, B, e1, e2, e3, e4⟩ := (hch k (by omega)).1 hb
        have hn := hno k (by omega) hb
        rw [e2] at hR
        refine cg_back hr ht (by omega) hR e3 e4 (by rw [hB k (by omega), hb]; simp) (fun c10 c11 c12 c13 hR' hO' hB' => nm_e ?_)
        rw [← e1] at hR'
        refine ih (by omega) c10 c11 c12 c13 hR' (fun q G hq hG => hO' q G hq (hO q G hq hG)) (fun d hd => ?_)
        rw [hB' d hd, hB d hd]
        by_cases e : d = k
        · subst e
          simp [hn]
        · rw [decide_eq_false e]
          have : decide (d < k + 1) = decide (d < k) := decide_eq_decide.mpr (by omega)
          rw [this]
          simp
      · have hb' : cg_bt S k = false := by simpa using hb
        have e := (hch k (by omega)).2 hb'
        rw [e] at hR
        refine nm_e (ih (by omega) b10 b11 b12 b13 hR hO (fun d hd => ?_))
        rw [hB d hd]
        by_cases e : d = k
        · subst e
          simp [hb']
        · have : decide (d < k + 1) = decide (d < k) := decide_eq_decide.mpr (by omega)
          rw [this]
  refine nm_r (e' := nI mu + (-1)) (by rw [hfm]; exact Int32.sub_eq_add_neg _ _) ⟨mu + 1, ?_⟩
  exact main mu (Nat.le_refl _) a10 a11 a12 a13 hR (fun _ _ _ h => h) hbits
theorem cg_makeAll {post : Int32 → St1 → Prop} {fu fm fl ft : Int32} {a1 a2 a3 a4 a5 a6 a7 a8 a9 a10 a11 a12 a13 a14 a15 a16 a17 a18 : Nat → Int32} {K : cg_K} {us mu r : Nat} {S : Int32} {F : List Nat} (hr : r < 3) (ht : cg_tab K us mu fu fm a3 a4 a5 a6 a7 a8)
    (hno : ∀ d, d < mu → cg_bt S d = true → cg_bt (a10 r) d = false)
    (hR : cg_rm K mu a10 a11 a12 a13 r F) (hn : F.length ≤ 20)
    (hp1 : ∀ b10 b11 b12 b13 F', cg_rm K mu b10 b11 b12 b13 r F' → F'.length ≤ 20 → (∀ q G, q ≠ r → cg_rm K mu a10 a11 a12 a13 q G → cg_rm K mu b10 b11 b12 b13 q G) →
      (∀ d, d < 32 → cg_bt (b10 r) d = (cg_bt (a10 r) d || (cg_bt S d && decide (d < mu)))) → post 0 (fu, fm, fl, ft, a1, a2, a3, a4, a5, a6, a7, a8, a9, b10, b11, b12, b13, a14, a15, a16, a17, a18))
    (hp0 : ∀ v b10 b11 b12 b13, v < 0 → cg_rm K mu b10 b11 b12 b13 r F → (∀ q G, q ≠ r → cg_rm K mu a10 a11 a12 a13 q G → cg_rm K mu b10 b11 b12 b13 q G) →
      post v (fu, fm, fl, ft, a1, a2, a3, a4, a5, a6, a7, a8, a9, b10, b11, b12, b13, a14, a15, a16, a17, a18)) :
    wpX_makeAll post (fu, fm, fl, ft, a1, a2, a3, a4, a5, a6, a7, a8, a9, a10, a11, a12, a13, a14, a15, a16, a17, a18) (nI r) S := by
  have hfm := ht.2.2.1
  have hm := ht.2.2.2.1
  -- giving up at k
  have fail : ∀ k (x4 : Int32) Gs b10 b11 b12 b13, k < mu → Gs 0 = F → cg_chn K (cg_bt S) Gs k → cg_rm K mu b10 b11 b12 b13 r (Gs k) → (∀ q G, q ≠ r → cg_rm K mu a10 a11 a12 a13 q G → cg_rm K mu b10 b11 b12 b13 q G) →
      (∀ d, d < 32 → cg_bt (b10 r) d = (cg_bt (a10 r) d || (cg_bt S d && decide (d < k)))) → wX_makeAll_61 post (nI r) S (nI k) x4 fu fm fl ft a1 a2 a3 a4 a5 a6 a7 a8 a9 b10 b11 b12 b13 a14 a15 a16 a17 a18 := by
    intro k x4 Gs b10 b11 b12 b13 hk hG0 hch hR hO hB
    have hS' : ∀ d, d < 32 → cg_bt (S &&& (((1 : Int32) <<< (nI k &&& 31)) - 1)) d = (cg_bt S d && decide (d < k)) := fun d hd => cg_below S (by omega) hd
    refine cg_takeAllBack (Gs := fun d => Gs (min d k)) (h0 := cg_bt (a10 r)) hr ht ?_ ?_ ?_ ?_ ?_
    · intro d hd
      show (_ → cg_stp K d (Gs (min d k)) (Gs (min (d + 1) k))) ∧ (_ → Gs (min (d + 1) k) = Gs (min d k))
      rw [hS' d (by omega)]
      by_cases e : d < k
      · rw [decide_eq_true e, Bool.and_true, show min d k = d by omega, show min (d + 1) k = d + 1 by omega]
        exact hch d e
      · rw [decide_eq_false e, Bool.and_false, show min d k = k by omega, show min (d + 1) k = k by omega]
        exact ⟨fun z => absurd z (by decide), fun _ => rfl⟩
    · intro d hd hb
      rw [hS' d (by omega)] at hb
      exact hno d hd (by revert hb; cases cg_bt S d <;> simp)
    · show cg_rm K mu b10 b11 b12 b13 r (Gs (min mu k))
      rw [show min mu k = k by omega]
      exact hR
    · intro d hd
      rw [hB d hd, hS' d hd]
      by_cases e : d < k
      · rw [decide_eq_true e, decide_eq_true (show d < mu by omega)]
        simp
      · rw [decide_eq_false e]
        simp
    · intro c10 c11 c12 c13 hR' hO' _
      have hR2 : cg_rm K mu c10 c11 c12 c13 r F := by
        have e : Gs (min 0 k) = F := by rw [Nat.zero_min]; exact hG0
        rw [← e]
        exact hR'
      exact br_c (fun _ => hp0 _ c10 c11 c12 c13 (by decide) hR2 (fun q G hq hG => hO' q G hq (hO q G hq hG))) (fun _ => hp0 _ c10 c11 c12 c13 (by decide) hR2 (fun q G hq hG => hO' q G hq (hO q G hq hG)))
  have main : ∀ n k Gs b10 b11 b12 b13, k + n = mu → Gs 0 = F → cg_chn K (cg_bt S) Gs k → cg_rm K mu b10 b11 b12 b13 r (Gs k) → (Gs k).length ≤ 20 → (∀ q G, q ≠ r → cg_rm K mu a10 a11 a12 a13 q G → cg_rm K mu b10 b11 b12 b13 q G) →
      (∀ d, d < 32 → cg_bt (b10 r) d = (cg_bt (a10 r) d || (cg_bt S d && decide (d < k)))) → wX_makeAll_2 post (nI r) S (n + 1) (nI k) fu fm fl ft a1 a2 a3 a4 a5 a6 a7 a8 a9 b10 b11 b12 b13 a14 a15 a16 a17 a18 := by
    intro n
    induction n with
    | zero =>
      intro k Gs b10 b11 b12 b13 hk hG0 hch hR hl hO hB
      have hk' : k = mu := hk
      subst hk'
      exact pk_le k k (fun _ => hp1 b10 b11 b12 b13 (Gs k) hR hl hO hB) (fun z => absurd z (by omega)) (hx := hfm)
    | succ n ih =>
      intro k Gs b10 b11 b12 b13 hk hG0 hch hR hl hO hB
      refine pk_le mu k (fun z => absurd z (by omega)) (fun _ => ek_if (cg_bit1 (by omega)) (fun hb => ?_) (fun hb => ?_)) (hx := hfm)
      · have row := ht.2.2.2.2.1 k (by omega)
        obtain ⟨e3, b3, e4, b4, ⟨p, e5, eP, bP⟩, e6, e7, b7, e8, nT, lT⟩ := row
        have hu := ht.2.1
        refine cg_runStands hr ht (by omega) hR.2.1 hR.2.2.2.1 hR.2.2.2.2.1 (fun A B eF eA eB => ?_) ?_
        · rw [eF] at hR hl
          have hlen : b13 (nI r).toNatClampNeg + a6 (nI k).toNatClampNeg - a7 (nI k).toNatClampNeg = nI (A ++ cg_kP K k ++ B).length := by
            rw [nI_clamp (by omega), nI_clamp (by omega), hR.2.2.1, e6, e7, cg_app_len, cg_app_len, cg_len4]
          refine ⟨pk_in r 3 hr, pk_in k 16 (by omega), pk_in k 16 (by omega), nm_r hlen (br_f (by decide) (pk_le (A ++ cg_kP K k ++ B).length 20 (fun hle => ?_) (fun _ => ?_) (ha := by rw [cg_app_len] at *; omega)))⟩
          · have hn0 := hno k (by omega) hb
            refine cg_make hr ht (by omega) hR eA eB (by rw [hB k (by omega), hn0, decide_eq_false (by omega)]; simp) (fun c10 c11 c12 c13 hR' hO' hB' => nm_r (nI_1 k) ?_)
            refine ih (k + 1) (fun d => if d ≤ k then Gs d else A ++ cg_kP K k ++ B) c10 c11 c12 c13 (by omega) ?_ ?_ ?_ ?_ (fun q G hq hG => hO' q G hq (hO q G hq hG)) ?_
            · show (if 0 ≤ k then Gs 0 else _) = F
              rw [if_pos (by omega)]
              exact hG0
            · intro d hd
              show (_ → cg_stp K d (if d ≤ k then Gs d else _) (if d + 1 ≤ k then Gs (d + 1) else _)) ∧ (_ → (if d + 1 ≤ k then Gs (d + 1) else _) = (if d ≤ k then Gs d else _))
              by_cases e : d = k
              · subst e
                rw [if_pos (Nat.le_refl _), if_neg (by omega)]
                exact ⟨fun _ => ⟨A, B, eF, rfl, eA, eB⟩, fun z => by rw [hb] at z; exact absurd z (by decide)⟩
              · rw [if_pos (by omega), if_pos (by omega)]
                exact hch d (by omega)
            · show cg_rm K mu c10 c11 c12 c13 r (if k + 1 ≤ k then _ else _)
              rw [if_neg (by omega)]
              exact hR'
            · show (if k + 1 ≤ k then _ else _ : List Nat).length ≤ 20
              rw [if_neg (by omega)]
              exact hle
            · intro d hd
              rw [hB' d hd, hB d hd]
              by_cases e : d = k
              · subst e
                simp [hb]
              · rw [decide_eq_false e, Bool.or_false]
                have : decide (d < k + 1) = decide (d < k) := decide_eq_decide.mpr (by omega)
                rw [this]
          · rw [← eF] at hR
            exact fail k 1 Gs b10 b11 b12 b13 (by omega) hG0 hch hR hO hB
        · exact ⟨pk_in r 3 hr, pk_in k 16 (by omega), pk_in k 16 (by omega), nm_e (br_t rfl (fail k 0 Gs b10 b11 b12 b13 (by omega) hG0 hch hR hO hB))⟩
      · have hb' : cg_bt S k = false := by simpa using hb
        refine nm_r (nI_1 k) (ih (k + 1) (fun d => if d ≤ k then Gs d else Gs k) b10 b11 b12 b13 (by omega) ?_ ?_ ?_ ?_ hO ?_)
        · show (if 0 ≤ k then Gs 0 else _) = F
          rw [if_pos (by omega)]
          exact hG0
        · intro d hd
          show (_ → cg_stp K d (if d ≤ k then Gs d else _) (if d + 1 ≤ k then Gs (d + 1) else _)) ∧ (_ → (if d + 1 ≤ k then Gs (d + 1) else _) = (if d ≤ k then Gs d else _))
          by_cases e : d = k
          · subst e
            rw [if_pos (Nat.le_refl _), if_neg (by omega)]
            exact ⟨fun z => by rw [hb'] at z; exact absurd z (by decide), fun _ => rfl⟩
          · rw [if_pos (by omega), if_pos (by omega)]
            exact hch d (by omega)
        · show cg_rm K mu b10 b11 b12 b13 r (if k + 1 ≤ k then _ else _)
          rw [if_neg (by omega)]
          exact hR
        · show (if k + 1 ≤ k then _ else _ : List Nat).length ≤ 20
          rw [if_neg (by omega)]
          exact hl
        · intro d hd
          rw [hB d hd]
          by_cases e : d = k
          · subst e
            simp [hb']
          · have : decide (d < k + 1) = decide (d < k) := decide_eq_decide.mpr (by omega)
            rw [this]
  refine ⟨mu + 1, main mu 0 (fun _ => F) a10 a11 a12 a13 (by omega) rfl (fun d hd => absurd hd (by omega)) hR hn (fun _ _ _ h => h) (fun d hd => ?_)⟩
  simp
theorem cg_pull {post : Int32 → St1 → Prop} {fu fm fl ft : Int32} {a1 a2 a3 a4 a5 a6 a7 a8 a9 a10 a11 a12 a13 a14 a15 a16 a17 a18 : Nat → Int32} {K : cg_K} {us mu r q c : Nat} {F : List Nat} (hr : r < 3) (hq : q < 3) (hc : c < 16) (ht : cg_tab K us mu fu fm a3 a4 a5 a6 a7 a8)
    (hR : cg_rm K mu a10 a11 a12 a13 r F) (hn : F.length ≤ 20)
    (hp1 : ∀ v b10 b11 b12 b13 b15 b16 F', c < mu → cg_rm K mu b10 b11 b12 b13 r F' → F'.length ≤ 20 → (∀ q G, q ≠ r → cg_rm K mu a10 a11 a12 a13 q G → cg_rm K mu b10 b11 b12 b13 q G) →
      (∀ d, d < mu → d = c ∨ cg_bt (a9 c) d = true → cg_bt (b10 r) d = true) → (∀ (k : Nat) (h : k < F'.length), b15 (20 * r + k) = a1 (F'[k])) →
      post v (fu, fm, fl, ft, a1, a2, a3, a4, a5, a6, a7, a8, a9, b10, b11, b12, b13, upd a14 r (nI F'.length), b15, b16, a17, a18))
    (hp0 : ∀ v b10 b11 b12 b13 b16, v < 0 → cg_rm K mu b10 b11 b12 b13 r F → (∀ q G, q ≠ r → cg_rm K mu a10 a11 a12 a13 q G → cg_rm K mu b10 b11 b12 b13 q G) →
      post v (fu, fm, fl, ft, a1, a2, a3, a4, a5, a6, a7, a8, a9, b10, b11, b12, b13, a14, a15, b16, a17, a18)) :
    wpX_pull post (fu, fm, fl, ft, a1, a2, a3, a4, a5, a6, a7, a8, a9, a10, a11, a12, a13, a14, a15, a16, a17, a18) (nI r) (nI q) (nI c) := by
  unfold wpX_pull
  have hfm := ht.2.2.1
  have hm := ht.2.2.2.1
  refine cg_refusal hr hq hm hc hfm hn hR.2.1 hR.2.2.1 hR.2.2.2.1 (fun hcm hh b16 => br_t rfl ⟨pk_in c 16 hc, pk_in r 3 hr, nm_e ?_⟩) (fun v b16 hv => br_f (fun z => by rw [z] at hv; exact absurd hv (by decide)) (hp0 v a10 a11 a12 a13 b16 hv hR (fun _ _ _ h => h)))
  rw [nI_clamp (by omega), nI_clamp (by omega)]
  have hS : ∀ d, d < 32 → cg_bt ((a9 c ||| ((1 : Int32) <<< (nI c &&& 31))) &&& (a10 r ^^^ (-1))) d = ((cg_bt (a9 c) d || decide (d = c)) && !cg_bt (a10 r) d) := by
    intro d hd
    rw [cg_diff _ _ hd, cg_set _ (by omega) hd]
  refine cg_makeAll hr ht ?_ hR hn ?_ ?_
  · intro d hd hb
    rw [hS d (by omega)] at hb
    revert hb
    cases cg_bt (a10 r) d <;> simp
  · intro b10 b11 b12 b13 F' hR' hn' hO hB
    refine br_t rfl (cg_revert hr hn' hR'.2.1 hR'.2.2.1 hR'.2.2.2.1 (fun b15 b16 hb => ?_))
    have fin : ∀ v, post v (fu, fm, fl, ft, a1, a2, a3, a4, a5, a6, a7, a8, a9, b10, b11, b12, b13, upd a14 r (nI F'.length), b15, b16, a17, a18) := by
      intro v
      refine hp1 v b10 b11 b12 b13 b15 b16 F' hcm hR' hn' hO (fun d hd hor => ?_) hb
      rw [hB d (by omega), hS d (by omega), decide_eq_true hd]
      rcases hor with e | e
      · rw [decide_eq_true e]
        cases cg_bt (a10 r) d <;> simp
      · rw [e]
        cases cg_bt (a10 r) d <;> simp
    have main : ∀ n k (x : Int32), k + n = mu → wX_pull_67 post ((a9 c ||| ((1 : Int32) <<< (nI c &&& 31))) &&& (a10 r ^^^ (-1))) fu fm fl ft a1 a2 a3 a4 a5 a6 a7 a8 a9 b10 b11 b12 b13 (upd a14 r (nI F'.length)) b15 b16 a17 a18 (n + 1) x (nI k) := by
      intro n
      induction n with
      | zero =>
        intro k x hk
        exact pk_le mu k (fun _ => fin x) (fun z => absurd z (by omega)) (hx := hfm)
      | succ n ih =>
        intro k x hk
        exact pk_le mu k (fun z => absurd z (by omega)) (fun _ => nm_e (nm_r (nI_1 k) (ih (k + 1) _ (by omega)))) (hx := hfm)
    exact ⟨mu + 1, main mu 0 0 (by omega)⟩
  · intro v b10 b11 b12 b13 hv hR' hO
    exact br_f (fun z => by rw [z] at hv; exact absurd hv (by decide)) (hp0 v b10 b11 b12 b13 b16 hv hR' hO)
theorem cg_uncommit {post : Int32 → St1 → Prop} {fu fm fl ft : Int32} {a1 a2 a3 a4 a5 a6 a7 a8 a9 a10 a11 a12 a13 a14 a15 a16 a17 a18 : Nat → Int32} {K : cg_K} {us mu r c : Nat} {F : List Nat} (hr : r < 3) (hc : c < 16) (ht : cg_tab K us mu fu fm a3 a4 a5 a6 a7 a8)
    (hR : cg_rm K mu a10 a11 a12 a13 r F) (hn : F.length ≤ 20)
    (hp1 : ∀ b10 b11 b12 b13 F', c < mu → cg_rm K mu b10 b11 b12 b13 r F' → F'.length ≤ 20 → (∀ q G, q ≠ r → cg_rm K mu a10 a11 a12 a13 q G → cg_rm K mu b10 b11 b12 b13 q G) →
      (∀ d, d < 32 → cg_bt (b10 r) d = (cg_bt (a10 r) d && !decide (d = c))) →
      post (nI F'.length) (fu, fm, fl, ft, a1, a2, a3, a4, a5, a6, a7, a8, a9, b10, b11, b12, b13, a14, a15, a16, a17, a18))
    (hp0 : ∀ v, v < 0 → post v (fu, fm, fl, ft, a1, a2, a3, a4, a5, a6, a7, a8, a9, a10, a11, a12, a13, a14, a15, a16, a17, a18)) :
    wpX_uncommit post (fu, fm, fl, ft, a1, a2, a3, a4, a5, a6, a7, a8, a9, a10, a11, a12, a13, a14, a15, a16, a17, a18) (nI r) (nI c) := by
  unfold wpX_uncommit
  have hfm := ht.2.2.1
  have hm := ht.2.2.2.1
  refine cg_isRoom hr (br_f (by decide) (cg_isChange hm (by omega) hfm (fun hcm => br_f (by decide) (cg_holds hr (by omega) (fun hh => br_f (by decide) ?_) (fun _ => br_t rfl (hp0 _ (by decide))))) (fun _ => br_t rfl (hp0 _ (by decide)))))
  have row := ht.2.2.2.2.1 c hcm
  obtain ⟨e3, b3, e4, b4, ⟨p, e5, eP, bP⟩, e6, e7, b7, e8, nT, lT⟩ := row
  have hu := ht.2.1
  -- the loop over later changes, whatever stands
  have main : ∀ (x3 : Int32), (¬ x3 = 0 → ∃ A B, F = A ++ cg_kP K c ++ B ∧ cg_la 60 A = cg_kb K c ∧ cg_hd 61 B = cg_ke K c) → ∀ n k (x4 : Int32), k + n = mu → wX_uncommit_47 post (nI r) (nI c) x3 fu fm fl ft a1 a2 a3 a4 a5 a6 a7 a8 a9 a10 a11 a12 a13 a14 a15 a16 a17 a18 (n + 1) x4 (nI k) := by
    intro x3 hx3 n
    induction n with
    | zero =>
      intro k x4 hk
      refine pk_le mu k (fun _ => br_c (fun _ => hp0 _ (by decide)) (fun h3 => br_c (fun _ => ⟨pk_in r 3 hr, pk_in c 16 (by omega), pk_in c 16 (by omega), ?_⟩) (fun _ => hp0 _ (by decide)))) (fun z => absurd z (by omega)) (hx := hfm)
      obtain ⟨A, B, eF, eA, eB⟩ := hx3 h3
      rw [eF] at hR hn
      have hlen : a13 (nI r).toNatClampNeg + a7 (nI c).toNatClampNeg - a6 (nI c).toNatClampNeg = nI (A ++ cg_kT K c ++ B).length := by
        rw [nI_clamp (by omega), nI_clamp (by omega), hR.2.2.1, e6, e7, cg_app_len, cg_app_len, cg_len4]
      refine pk_le (A ++ cg_kT K c ++ B).length 20 (fun hle => ?_) (fun _ => hp0 _ (by decide)) (hx := hlen) (ha := by rw [cg_app_len] at *; omega)
      refine cg_back hr ht hcm hR eA eB hh (fun b10 b11 b12 b13 hR' hO hB => ⟨pk_in r 3 hr, ?_⟩)
      rw [nI_clamp (by omega), hR'.2.2.1]
      exact hp1 b10 b11 b12 b13 _ hcm hR' hle hO hB
    | succ n ih =>
      intro k x4 hk
      refine pk_le mu k (fun z => absurd z (by omega)) (fun _ => br_c (fun _ => cg_holds hr (by omega) (fun _ => br_f (by decide) ⟨pk_in k 16 (by omega), br_c (fun _ => nm_r (nI_1 k) (ih (k + 1) _ (by omega))) (fun _ => nm_r (nI_1 k) (ih (k + 1) _ (by omega)))⟩) (fun _ => br_t rfl (nm_r (nI_1 k) (ih (k + 1) _ (by omega))))) (fun _ => nm_r (nI_1 k) (ih (k + 1) _ (by omega)))) (hx := hfm)
  refine cg_runAfterStands hr ht hcm hR.2.1 hR.2.2.2.1 hR.2.2.2.2.1 (fun A B eF eA eB => nm_r (nI_1 c) ⟨mu - (c + 1) + 1, main 1 (fun _ => ⟨A, B, eF, eA, eB⟩) (mu - (c + 1)) (c + 1) 0 (by omega)⟩) (nm_r (nI_1 c) ⟨mu - (c + 1) + 1, main 0 (fun z => absurd rfl z) (mu - (c + 1)) (c + 1) 0 (by omega)⟩)
end
section
/-! ===== the longest common row ===== -/
def cg_lrow (x : Int32) (prev : List Int32 → Nat) : List Int32 → Nat
  | [] => 0
  | y :: ys => max (max (prev (y :: ys)) (cg_lrow x prev ys)) (if x = y then prev ys + 1 else 0)
def cg_lcs : List Int32 → List Int32 → Nat
  | [] => fun _ => 0
  | x :: xs => cg_lrow x (cg_lcs xs)
theorem cg_lcs_nil (xs : List Int32) : cg_lcs xs [] = 0 := by
  cases xs <;> rfl
theorem cg_lcs_cc (x y : Int32) (xs ys : List Int32) : cg_lcs (x :: xs) (y :: ys) = max (max (cg_lcs xs (y :: ys)) (cg_lcs (x :: xs) ys)) (if x = y then cg_lcs xs ys + 1 else 0) := rfl
theorem cg_lcs_le (xs : List Int32) : ∀ ys, cg_lcs xs ys ≤ xs.length ∧ cg_lcs xs ys ≤ ys.length := by
  induction xs with
  | nil => intro ys; exact ⟨Nat.zero_le _, Nat.zero_le _⟩
  | cons x xs ih =>
    intro ys
    induction ys with
    | nil => rw [cg_lcs_nil]; exact ⟨Nat.zero_le _, Nat.zero_le _⟩
    | cons y ys ih2 =>
      have h1 := ih (y :: ys)
      have h2 := ih ys
      rw [cg_lcs_cc]
      simp only [List.length_cons] at *
      split <;> omega
theorem cg_lcs_self (xs : List Int32) : cg_lcs xs xs = xs.length := by
  induction xs with
  | nil => rfl
  | cons x xs ih =>
    have h := (cg_lcs_le (x :: xs) (x :: xs)).1
    rw [cg_lcs_cc, if_pos rfl, ih] at h
    rw [cg_lcs_cc, if_pos rfl, ih]
    simp only [List.length_cons] at *
    omega
theorem cg_lcs_pair (xs : List Int32) : ∀ ys, 0 < cg_lcs xs ys → ∃ i j, ∃ (hi : i < xs.length) (hj : j < ys.length), xs[i] = ys[j] ∧ cg_lcs (xs.drop (i + 1)) (ys.drop (j + 1)) + 1 = cg_lcs xs ys := by
  induction xs with
  | nil => intro ys h; exact absurd h (Nat.lt_irrefl 0)
  | cons x xs ih =>
    intro ys
    induction ys with
    | nil => intro h; rw [cg_lcs_nil] at h; exact absurd h (Nat.lt_irrefl 0)
    | cons y ys ih2 =>
      intro h
      by_cases e1 : cg_lcs (x :: xs) (y :: ys) = cg_lcs xs (y :: ys)
      · obtain ⟨i, j, hi, hj, e2, e3⟩ := ih (y :: ys) (by omega)
        refine ⟨i + 1, j, by rw [List.length_cons]; omega, hj, e2, ?_⟩
        rw [e1, ← e3]
        rfl
      · by_cases e4 : cg_lcs (x :: xs) (y :: ys) = cg_lcs (x :: xs) ys
        · obtain ⟨i, j, hi, hj, e2, e3⟩ := ih2 (by omega)
          refine ⟨i, j + 1, hi, by rw [List.length_cons]; omega, e2, ?_⟩
          rw [e4, ← e3]
          rfl
        · have e5 := cg_lcs_cc x y xs ys
          by_cases e : x = y
          · rw [if_pos e] at e5
            refine ⟨0, 0, by simp, by simp, e, ?_⟩
            show cg_lcs xs ys + 1 = _
            omega
          · rw [if_neg e] at e5
            omega
/-! ===== the grid ===== -/
/-- the texts of a copy -/
def cg_cp (a15 : Nat → Int32) (r m : Nat) : List Int32 := (List.range m).map (fun j => a15 (20 * r + j))
theorem cg_cp_len (a15 : Nat → Int32) (r m : Nat) : (cg_cp a15 r m).length = m := by
  unfold cg_cp
  rw [List.length_map, List.length_range]
theorem cg_cp_at (a15 : Nat → Int32) (r m : Nat) {j : Nat} (h : j < (cg_cp a15 r m).length) : (cg_cp a15 r m)[j] = a15 (20 * r + j) := by
  have h2 : (cg_cp a15 r m)[j]? = some (a15 (20 * r + j)) := by
    unfold cg_cp
    rw [List.getElem?_map, List.getElem?_range (by rw [cg_cp_len] at h; exact h)]
    rfl
  rw [List.getElem?_eq_getElem h] at h2
  exact Option.some.inj h2
theorem cg_cp_drop (a15 : Nat → Int32) {r m j : Nat} (h : j < m) : (cg_cp a15 r m).drop j = a15 (20 * r + j) :: (cg_cp a15 r m).drop (j + 1) := by
  have h' : j < (cg_cp a15 r m).length := by rw [cg_cp_len]; exact h
  rw [List.drop_eq_getElem_cons h', cg_cp_at]
theorem cg_tx_drop (a1 : Nat → Int32) {F : List Nat} {i : Nat} (h : i < F.length) : (F.map a1).drop i = a1 F[i] :: (F.map a1).drop (i + 1) := by
  have h' : i < (F.map a1).length := by rw [List.length_map]; exact h
  rw [List.drop_eq_getElem_cons h', List.getElem_map]
def cg_G (a1 a15 : Nat → Int32) (r m : Nat) (F : List Nat) (i j : Nat) : Nat := cg_lcs ((F.map a1).drop i) ((cg_cp a15 r m).drop j)
theorem cg_G_le (a1 a15 : Nat → Int32) (r m : Nat) (F : List Nat) (i j : Nat) : cg_G a1 a15 r m F i j ≤ F.length ∧ cg_G a1 a15 r m F i j ≤ m := by
  have := cg_lcs_le ((F.map a1).drop i) ((cg_cp a15 r m).drop j)
  rw [List.length_drop, List.length_drop, List.length_map, cg_cp_len] at this
  unfold cg_G
  omega
theorem cg_G_le2 (a1 a15 : Nat → Int32) (r m : Nat) (F : List Nat) (i j : Nat) : cg_G a1 a15 r m F i j ≤ F.length - i ∧ cg_G a1 a15 r m F i j ≤ m - j := by
  have := cg_lcs_le ((F.map a1).drop i) ((cg_cp a15 r m).drop j)
  rw [List.length_drop, List.length_drop, List.length_map, cg_cp_len] at this
  exact this
theorem cg_G_n (a1 a15 : Nat → Int32) (r m : Nat) (F : List Nat) (j : Nat) : cg_G a1 a15 r m F F.length j = 0 := by
  have := (cg_G_le2 a1 a15 r m F F.length j).1
  omega
theorem cg_G_m (a1 a15 : Nat → Int32) (r m : Nat) (F : List Nat) (i : Nat) : cg_G a1 a15 r m F i m = 0 := by
  have := (cg_G_le2 a1 a15 r m F i m).2
  omega
theorem cg_G_cc {a1 a15 : Nat → Int32} {r m : Nat} {F : List Nat} {i j : Nat} (hi : i < F.length) (hj : j < m) :
    cg_G a1 a15 r m F i j = max (max (cg_G a1 a15 r m F (i + 1) j) (cg_G a1 a15 r m F i (j + 1))) (if a1 F[i] = a15 (20 * r + j) then cg_G a1 a15 r m F (i + 1) (j + 1) + 1 else 0) := by
  unfold cg_G
  rw [cg_tx_drop a1 hi, cg_cp_drop a15 hj, cg_lcs_cc]
theorem cg_m103 {post : Int32 → Prop} {fu fm fl ft : Int32} {a1 a2 a3 a4 a5 a6 a7 a8 a9 a10 a11 a12 a13 a14 a15 a16 a17 a18 : Nat → Int32} {a b : Nat} (ha : a < 2 ^ 31) (hb : b < 2 ^ 31) (hp : post (nI (max a b))) : wX_mostFrom_103 post (nI a) (nI b) fu fm fl ft a1 a2 a3 a4 a5 a6 a7 a8 a9 a10 a11 a12 a13 a14 a15 a16 a17 a18 := by
  refine pk_le b a (fun z => ?_) (fun z => ?_)
  · rw [show max a b = a by omega] at hp; exact hp
  · rw [show max a b = b by omega] at hp; exact hp
theorem cg_21 (i j : Nat) : (21 : Int32) * nI i + nI j = nI (21 * i + j) := by
  rw [show (21 : Int32) = nI 21 from rfl, pk_mul, nI_add]
theorem cg_mostFrom {post : Int32 → Prop} {fu fm fl ft : Int32} {a1 a2 a3 a4 a5 a6 a7 a8 a9 a10 a11 a12 a13 a14 a15 a16 a17 a18 : Nat → Int32} {r m i j : Nat} {F : List Nat} (hr : r < 3) (hn : F.length ≤ 20) (hm : m ≤ 20) (h6 : ∀ x, x ∈ F → x < 60) (hs : a13 r = nI F.length) (hc : a14 r = nI m) (hrow : cg_rw a16 F)
    (hi : i ≤ F.length) (hj : j ≤ m) (g1 : i < F.length → a17 (21 * (i + 1) + j) = nI (cg_G a1 a15 r m F (i + 1) j)) (g2 : j < m → a17 (21 * i + (j + 1)) = nI (cg_G a1 a15 r m F i (j + 1)))
    (g3 : i < F.length → j < m → a17 (21 * (i + 1) + (j + 1)) = nI (cg_G a1 a15 r m F (i + 1) (j + 1))) (hp : post (nI (cg_G a1 a15 r m F i j))) : wpX_mostFrom post (fu, fm, fl, ft, a1, a2, a3, a4, a5, a6, a7, a8, a9, a10, a11, a12, a13, a14, a15, a16, a17, a18) (nI r) (nI i) (nI j) := by
  refine ⟨pk_in r 3 hr, pk_eq i F.length (fun z => ?_) (fun z => ⟨pk_in r 3 hr, pk_eq j m (fun z2 => ?_) (fun z2 => ?_) (hy := by rw [nI_clamp (by omega)]; exact hc)⟩) (hy := by rw [nI_clamp (by omega)]; exact hs)⟩
  · rw [z, cg_G_n] at hp; exact hp
  · rw [z2, cg_G_m] at hp; exact hp
  · have hi' : i < F.length := by omega
    have hj' : j < m := by omega
    have q1 := cg_G_le a1 a15 r m F (i + 1) j
    have q2 := cg_G_le a1 a15 r m F i (j + 1)
    have q3 := cg_G_le a1 a15 r m F (i + 1) (j + 1)
    have i1 : (21 : Int32) * (nI i + 1) + nI j = nI (21 * (i + 1) + j) := by rw [nI_1, cg_21]
    have i2 : (21 : Int32) * nI i + nI j + 1 = nI (21 * i + (j + 1)) := by rw [cg_21, nI_1, Nat.add_assoc]
    have i3 : (21 : Int32) * (nI i + 1) + nI j + 1 = nI (21 * (i + 1) + (j + 1)) := by rw [nI_1, cg_21, nI_1, Nat.add_assoc]
    have hcc := cg_G_cc (a1 := a1) (a15 := a15) (r := r) hi' hj'
    have f66 : ∀ z, z = max (cg_G a1 a15 r m F (i + 1) j) (cg_G a1 a15 r m F i (j + 1)) → wX_mostFrom_66 post (nI r) (nI i) (nI j) (nI z) fu fm fl ft a1 a2 a3 a4 a5 a6 a7 a8 a9 a10 a11 a12 a13 a14 a15 a16 a17 a18 := by
      intro z hz
      refine cg_agree hr (by omega) (by omega) (h6 _ (List.getElem_mem hi')) (hrow i hi') (fun e => br_f (by decide) ⟨pk_in _ 441 (by omega) i3, ?_⟩) (fun e => br_t rfl ?_)
      · rw [i3, nI_clamp (by omega), g3 hi' hj', nI_1]
        refine cg_m103 (by omega) (by omega) ?_
        rw [if_pos e, ← hz] at hcc
        rw [← hcc]
        exact hp
      · rw [if_neg e, ← hz] at hcc
        refine cg_m103 (b := 0) (by omega) (by omega) ?_
        rw [← hcc]
        exact hp
    refine ⟨pk_in _ 441 (by omega) i1, nm_r (e' := nI (cg_G a1 a15 r m F (i + 1) j)) (by rw [i1, nI_clamp (by omega)]; exact g1 hi') ⟨pk_in _ 441 (by omega) i2, nm_r (e' := nI (cg_G a1 a15 r m F i (j + 1))) (by rw [i2, nI_clamp (by omega)]; exact g2 hj') ?_⟩⟩
    exact pk_le (cg_G a1 a15 r m F (i + 1) j) (cg_G a1 a15 r m F i (j + 1)) (fun z => f66 _ (by omega)) (fun z => f66 _ (by omega))
def cg_gr (b17 : Nat → Int32) (a1 a15 : Nat → Int32) (r m : Nat) (F : List Nat) : Prop := ∀ i j, i ≤ F.length → j ≤ m → b17 (21 * i + j) = nI (cg_G a1 a15 r m F i j)
theorem cg_compareCopy {post : St1 → Prop} {fu fm fl ft : Int32} {a1 a2 a3 a4 a5 a6 a7 a8 a9 a10 a11 a12 a13 a14 a15 a16 a17 a18 : Nat → Int32} {r m : Nat} {F : List Nat} (hr : r < 3) (hn : F.length ≤ 20) (hm : m ≤ 20) (h6 : ∀ x, x ∈ F → x < 60) (hs : a13 r = nI F.length) (hl : cg_ln a11 r 60 (F ++ [61])) (hc : a14 r = nI m)
    (hp : ∀ b16 b17, cg_rw b16 F → cg_gr b17 a1 a15 r m F → post (fu, fm, fl, ft, a1, a2, a3, a4, a5, a6, a7, a8, a9, a10, a11, a12, a13, a14, a15, b16, b17, a18)) : wpX_compareCopy post (fu, fm, fl, ft, a1, a2, a3, a4, a5, a6, a7, a8, a9, a10, a11, a12, a13, a14, a15, a16, a17, a18) (nI r) := by
  unfold wpX_compareCopy
  refine cg_layRow hr hn h6 hs hl (fun b16 hb => ⟨pk_in r 3 hr, nm_r (e' := nI F.length) (by rw [nI_clamp (by omega)]; exact hs) ?_⟩)
  have outer : ∀ k, k ≤ F.length + 1 → ∀ s : Nat → Int32, (∀ i j, k ≤ i → i ≤ F.length → j ≤ m → s (21 * i + j) = nI (cg_G a1 a15 r m F i j)) →
      wX_compareCopy_12 post (nI r) fu fm fl ft (k + 1) (nI k + (-1)) a1 a2 a3 a4 a5 a6 a7 a8 a9 a10 a11 a12 a13 a14 a15 b16 s a18 := by
    intro k
    induction k with
    | zero =>
      intro _ s h
      exact br_t (by decide) (hp b16 s hb (fun i j h1 h2 => h i j (by omega) h1 h2))
    | succ k ih =>
      intro hk s h
      rw [pk_m1]
      refine pk_lt k 0 (fun z => absurd z (by omega)) (fun _ => ⟨pk_in r 3 hr, nm_r (e' := nI m) (by rw [nI_clamp (by omega)]; exact hc) ?_⟩)
      have inner : ∀ q, q ≤ m + 1 → ∀ s : Nat → Int32, (∀ i j, i ≤ F.length → j ≤ m → (k < i ∨ (i = k ∧ q ≤ j)) → s (21 * i + j) = nI (cg_G a1 a15 r m F i j)) →
          wX_compareCopy_23 post (wX_compareCopy_12 post (nI r) fu fm fl ft (k + 1)) (nI r) (nI k) fu fm fl ft (q + 1) (nI q + (-1)) a1 a2 a3 a4 a5 a6 a7 a8 a9 a10 a11 a12 a13 a14 a15 b16 s a18 := by
        intro q
        induction q with
        | zero =>
          intro _ s h
          exact br_t (by decide) (nm_e (ih (by omega) s (fun i j h1 h2 h3 => h i j h2 h3 (by omega))))
        | succ q ih2 =>
          intro hq s h
          rw [pk_m1]
          refine pk_lt q 0 (fun z => absurd z (by omega)) (fun _ => cg_mostFrom hr hn hm h6 hs hc hb (by omega) (by omega) (fun z => h _ _ (by omega) (by omega) (by omega)) (fun z => h _ _ (by omega) (by omega) (by omega)) (fun z z2 => h _ _ (by omega) (by omega) (by omega)) ⟨pk_in (21 * k + q) 441 (by omega) (cg_21 k q), nm_e (nm_e (ih2 (by omega) _ ?_))⟩)
          intro i j h1 h2 h3
          rw [cg_21, nI_clamp (by omega)]
          by_cases e : i = k ∧ j = q
          · rw [e.1, e.2]
            exact pk_us
          · rw [pk_un (by omega)]
            exact h i j h1 h2 (by omega)
      refine ⟨m + 1 + 1, ?_⟩
      have := inner (m + 1) (by omega) s (fun i j h1 h2 h3 => h i j (by omega) h1 h2)
      rw [pk_m1] at this
      exact this
  refine ⟨F.length + 1 + 1, ?_⟩
  have := outer (F.length + 1) (by omega) a17 (fun i j h1 h2 _ => absurd h1 (by omega))
  rw [pk_m1] at this
  exact this
/-! ===== clean, look, pulled ===== -/
theorem cg_unrec {post : Int32 → St1 → Prop} {fu fm fl ft : Int32} {a1 a2 a3 a4 a5 a6 a7 a8 a9 a10 a11 a12 a13 a14 a15 a16 a17 a18 : Nat → Int32} {r m : Nat} {F : List Nat} (hr : r < 3) (hn : F.length ≤ 20) (hm : m ≤ 20) (h6 : ∀ x, x ∈ F → x < 60) (hs : a13 r = nI F.length) (hl : cg_ln a11 r 60 (F ++ [61])) (hc : a14 r = nI m)
    (he : F.map a1 = cg_cp a15 r m) (hp : ∀ b16 b17, post 0 (fu, fm, fl, ft, a1, a2, a3, a4, a5, a6, a7, a8, a9, a10, a11, a12, a13, a14, a15, b16, b17, a18)) : wpX_unrecorded post (fu, fm, fl, ft, a1, a2, a3, a4, a5, a6, a7, a8, a9, a10, a11, a12, a13, a14, a15, a16, a17, a18) (nI r) := by
  unfold wpX_unrecorded
  refine cg_isRoom hr (br_f (by decide) (cg_compareCopy hr hn hm h6 hs hl hc (fun b16 b17 hb hg => ⟨pk_in r 3 hr, pk_in r 3 hr, ?_⟩)))
  have hl : F.length = m := by
    have := congrArg List.length he
    rw [List.length_map, cg_cp_len] at this
    exact this
  have e0 : b17 0 = nI m := by
    have := hg 0 0 (by omega) (by omega)
    rw [show cg_G a1 a15 r m F 0 0 = m by
      show cg_lcs (F.map a1) (cg_cp a15 r m) = m
      rw [he, cg_lcs_self, cg_cp_len]] at this
    exact this
  have ez : a13 (nI r).toNatClampNeg + a14 (nI r).toNatClampNeg - 2 * b17 0 = 0 := by
    rw [nI_clamp (by omega), hs, hc, e0, hl]
    generalize nI m = x
    grind
  rw [ez]
  exact hp b16 b17
theorem cg_clean {post : Int32 → St1 → Prop} {fu fm fl ft : Int32} {a1 a2 a3 a4 a5 a6 a7 a8 a9 a10 a11 a12 a13 a14 a15 a16 a17 a18 : Nat → Int32} {r m : Nat} {F : List Nat} (hr : r < 3) (hn : F.length ≤ 20) (hm : m ≤ 20) (h6 : ∀ x, x ∈ F → x < 60) (hs : a13 r = nI F.length) (hl : cg_ln a11 r 60 (F ++ [61])) (hc : a14 r = nI m)
    (he : F.map a1 = cg_cp a15 r m) (hp : ∀ b16 b17, post 1 (fu, fm, fl, ft, a1, a2, a3, a4, a5, a6, a7, a8, a9, a10, a11, a12, a13, a14, a15, b16, b17, a18)) : wpL_clean post (fu, fm, fl, ft, a1, a2, a3, a4, a5, a6, a7, a8, a9, a10, a11, a12, a13, a14, a15, a16, a17, a18) (nI r) := by
  have hlen : F.length = m := by
    have := congrArg List.length he
    rw [List.length_map, cg_cp_len] at this
    exact this
  refine pk_loop (fun n i s => wL_clean_2 post (nI r) n (nI i) fu fm fl ft a1 a2 a3 a4 a5 a6 a7 a8 a9 a10 a11 a12 a13 a14 a15 s a17 a18) (fun _ _ => True) 21 0 a16 (by omega) trivial ?_ ?_
  · intro n s _
    exact pk_le 21 21 (fun _ => cg_unrec hr hn hm h6 hs hl hc he (fun b16 b17 => br_t rfl (hp b16 b17))) (fun z => absurd z (by omega))
  · intro n i s hi _ hw
    refine pk_le 21 i (fun z => absurd z (by omega)) (fun _ => cg_line hr (by omega) hn h6 hs hl (fun b16 => cg_text hr (by omega) hm hc (fun z => br_t ?_ (nm_r (nI_1 i) (hw b16 trivial))) (fun z => br_t ?_ (nm_r (nI_1 i) (hw b16 trivial)))))
    · have hi' : i < F.length := by omega
      rw [cg_lv_in hi']
      have h1 : i < (F.map a1).length := by rw [List.length_map]; exact hi'
      have h2 := List.getElem_of_eq he h1
      rw [List.getElem_map, cg_cp_at] at h2
      exact h2
    · exact cg_lv_out (by omega)
def cg_hash (a1 a2 : Nat → Int32) (F : List Nat) : Nat → Int64
  | 0 => (nI F.length).toInt64
  | k + 1 => 31 * (31 * cg_hash a1 a2 F k + (cg_lv a1 F k).toInt64) + (cg_lv a2 F k).toInt64
theorem cg_hash_congr {a1 a2 b1 b2 : Nat → Int32} {F : List Nat} (h1 : ∀ x, x ∈ F → b1 x = a1 x) (h2 : ∀ x, x ∈ F → b2 x = a2 x) : ∀ k, cg_hash b1 b2 F k = cg_hash a1 a2 F k := by
  have lv : ∀ (g g' : Nat → Int32), (∀ x, x ∈ F → g x = g' x) → ∀ k, cg_lv g F k = cg_lv g' F k := by
    intro g g' h k
    rcases Nat.lt_or_ge k F.length with z | z
    · rw [cg_lv_in z, cg_lv_in z, h _ (List.getElem_mem z)]
    · rw [cg_lv_out z, cg_lv_out z]
  intro k
  induction k with
  | zero => rfl
  | succ k ih =>
    show 31 * (31 * cg_hash b1 b2 F k + (cg_lv b1 F k).toInt64) + (cg_lv b2 F k).toInt64 = _
    rw [ih, lv b1 a1 h1, lv b2 a2 h2]
    rfl
theorem cg_look {post : Int64 → St1 → Prop} {fu fm fl ft : Int32} {a1 a2 a3 a4 a5 a6 a7 a8 a9 a10 a11 a12 a13 a14 a15 a16 a17 a18 : Nat → Int32} {r : Nat} {F : List Nat} (hr : r < 3) (hn : F.length ≤ 20) (h6 : ∀ x, x ∈ F → x < 60) (hs : a13 r = nI F.length) (hl : cg_ln a11 r 60 (F ++ [61]))
    (hp : ∀ b16, post (cg_hash a1 a2 F 20) (fu, fm, fl, ft, a1, a2, a3, a4, a5, a6, a7, a8, a9, a10, a11, a12, a13, a14, a15, b16, a17, a18)) : wpL_look post (fu, fm, fl, ft, a1, a2, a3, a4, a5, a6, a7, a8, a9, a10, a11, a12, a13, a14, a15, a16, a17, a18) (nI r) := by
  unfold wpL_look
  refine cg_lines hr ?_
  rw [hs]
  refine pk_loop (fun n i s => wL_look_10 post (nI r) n (cg_hash a1 a2 F i) (nI i) fu fm fl ft a1 a2 a3 a4 a5 a6 a7 a8 a9 a10 a11 a12 a13 a14 a15 s a17 a18) (fun _ _ => True) 20 0 a16 (by omega) trivial ?_ ?_
  · intro n s _
    exact pk_le 20 20 (fun _ => hp s) (fun z => absurd z (by omega))
  · intro n i s hi _ hw
    exact pk_le 20 i (fun z => absurd z (by omega)) (fun _ => cg_line hr (by omega) hn h6 hs hl (fun b16 => cg_source hr (by omega) hn h6 hs hl (fun c16 => nm_e (nm_r (nI_1 i) (hw c16 trivial)))))
theorem cg_pulled {post : Int32 → St1 → Prop} {fu fm fl ft : Int32} {a1 a2 a3 a4 a5 a6 a7 a8 a9 a10 a11 a12 a13 a14 a15 a16 a17 a18 : Nat → Int32} {r m mu c : Nat} {F : List Nat} (hr : r < 3) (hmu : mu ≤ 16) (hcm : c < mu) (hf : fm = nI mu) (hn : F.length ≤ 20) (hm : m ≤ 20) (h6 : ∀ x, x ∈ F → x < 60) (hs : a13 r = nI F.length) (hl : cg_ln a11 r 60 (F ++ [61])) (hc : a14 r = nI m)
    (he : F.map a1 = cg_cp a15 r m) (hh : ∀ d, d < mu → d = c ∨ cg_bt (a9 c) d = true → cg_bt (a10 r) d = true) (hp : ∀ b16 b17, post 1 (fu, fm, fl, ft, a1, a2, a3, a4, a5, a6, a7, a8, a9, a10, a11, a12, a13, a14, a15, b16, b17, a18)) : wpL_pulled post (fu, fm, fl, ft, a1, a2, a3, a4, a5, a6, a7, a8, a9, a10, a11, a12, a13, a14, a15, a16, a17, a18) (nI r) (nI c) := by
  have h1 := hh c hcm (Or.inl rfl)
  refine pk_loop (σ := Unit) (fun n i _ => wL_pulled_2 post (nI r) (nI c) fu fm fl ft a1 a2 a3 a4 a5 a6 a7 a8 a9 a10 a11 a12 a13 a14 a15 a16 a17 a18 n (nI i)) (fun _ _ => True) 16 0 () (by omega) trivial ?_ ?_
  · intro n s _
    exact pk_le 16 16 (fun _ => cg_has hr hmu (by omega) hf (fun z => absurd z (by omega)) (fun _ _ => br_t rfl (cg_clean hr hn hm h6 hs hl hc he (fun b16 b17 => br_f (by decide) (hp b16 b17)))) (fun _ z => by rw [h1] at z; exact absurd z (by decide))) (fun z => absurd z (by omega))
  · intro n i s hi _ hw
    exact pk_le 16 i (fun z => absurd z (by omega)) (fun _ => cg_needs hmu (by omega) hi hf (br_f (by decide) (nm_r (nI_1 i) (hw () trivial))) (fun _ hd hb => br_t rfl (cg_has hr hmu (by omega) hf (fun z => absurd z (by omega)) (fun _ _ => br_t rfl (nm_r (nI_1 i) (hw () trivial))) (fun _ z => by rw [hh i hd (Or.inr hb)] at z; exact absurd z (by decide)))) (br_f (by decide) (nm_r (nI_1 i) (hw () trivial))))
end
section
/-! ===== pairs ===== -/
theorem cg_G_pair {a1 a15 : Nat → Int32} {r m : Nat} {F : List Nat} {i j : Nat} (h : 0 < cg_G a1 a15 r m F i j) :
    ∃ a b, ∃ ha : a < F.length, i ≤ a ∧ j ≤ b ∧ b < m ∧ a1 F[a] = a15 (20 * r + b) ∧ cg_G a1 a15 r m F (a + 1) (b + 1) + 1 = cg_G a1 a15 r m F i j := by
  obtain ⟨p, q, hp, hq, e1, e2⟩ := cg_lcs_pair _ _ h
  have hp' : i + p < F.length := by
    rw [List.length_drop, List.length_map] at hp
    omega
  have hq' : j + q < m := by
    rw [List.length_drop, cg_cp_len] at hq
    omega
  refine ⟨i + p, j + q, hp', by omega, by omega, hq', ?_, ?_⟩
  · rw [List.getElem_drop, List.getElem_drop, List.getElem_map, cg_cp_at] at e1
    exact e1
  · rw [List.drop_drop, List.drop_drop] at e2
    exact e2
theorem cg_findPair {post : St1 → Prop} {fu fm fl ft : Int32} {a1 a2 a3 a4 a5 a6 a7 a8 a9 a10 a11 a12 a13 a14 a15 a16 a17 a18 : Nat → Int32} {r m i0 j0 : Nat} {F : List Nat} (hr : r < 3) (hn : F.length ≤ 20) (hm : m ≤ 20) (h6 : ∀ x, x ∈ F → x < 60) (hs : a13 r = nI F.length) (hc : a14 r = nI m) (hrow : cg_rw a16 F) (hg : cg_gr a17 a1 a15 r m F)
    (hi0 : i0 ≤ F.length) (hj0 : j0 ≤ m) (hpos : 0 < cg_G a1 a15 r m F i0 j0)
    (hp : ∀ i j, (hi : i < F.length) → i0 ≤ i → j0 ≤ j → j < m → a1 F[i] = a15 (20 * r + j) → cg_G a1 a15 r m F (i + 1) (j + 1) + 1 = cg_G a1 a15 r m F i0 j0 → post (fu, fm, nI i, nI j, a1, a2, a3, a4, a5, a6, a7, a8, a9, a10, a11, a12, a13, a14, a15, a16, a17, a18)) :
    wpX_findPair post (fu, fm, fl, ft, a1, a2, a3, a4, a5, a6, a7, a8, a9, a10, a11, a12, a13, a14, a15, a16, a17, a18) (nI r) (nI i0) (nI j0) := by
  obtain ⟨i1, j1, hi1, h1, h2, hj1, hE, hG⟩ := cg_G_pair hpos
  have hdue := cg_G_le a1 a15 r m F i0 j0
  refine ⟨pk_in (21 * i0 + j0) 441 (by omega) (cg_21 i0 j0), nm_r (e' := nI (cg_G a1 a15 r m F i0 j0)) (by rw [cg_21, nI_clamp (by omega)]; exact hg i0 j0 hi0 hj0) ?_⟩
  have inner : ∀ (J : Int32 → Prop) i, i0 ≤ i → i ≤ i1 → (i ≠ i1 → J (nI (i + 1))) → ∀ e j, j + e = m → j0 ≤ j → (i = i1 → j ≤ j1) →
      wX_findPair_30 post J (nI r) (nI j0) (nI (cg_G a1 a15 r m F i0 j0)) (nI i) fu fm fl ft a1 a2 a3 a4 a5 a6 a7 a8 a9 a10 a11 a12 a13 a14 a15 a16 a17 a18 (e + 1) (nI j) := by
    intro J i hi hii hJ e
    induction e with
    | zero =>
      intro j hj hjj hij
      exact ⟨pk_in r 3 hr, pk_le m j (fun _ => nm_r (nI_1 i) (hJ (fun z => by have := hij z; omega))) (fun z => absurd z (by omega)) (hx := by rw [nI_clamp (by omega)]; exact hc)⟩
    | succ e ih =>
      intro j hj hjj hij
      have i3 : (21 : Int32) * (nI i + 1) + nI j + 1 = nI (21 * (i + 1) + (j + 1)) := by rw [nI_1, cg_21, nI_1, Nat.add_assoc]
      have q3 := cg_G_le a1 a15 r m F (i + 1) (j + 1)
      have hiF : i < F.length := by omega
      refine ⟨pk_in r 3 hr, pk_le m j (fun z => absurd z (by omega)) (fun _ => cg_agree hr (by omega) (by omega) (h6 _ (List.getElem_mem hiF)) (hrow i hiF) (fun e => br_f (by decide) ⟨pk_in _ 441 (by omega) i3, ?_⟩) (fun e => br_t rfl (nm_r (nI_1 j) (ih (j + 1) (by omega) (by omega) (fun z => ?_))))) (hx := by rw [nI_clamp (by omega)]; exact hc)⟩
      · refine pk_eq (cg_G a1 a15 r m F (i + 1) (j + 1) + 1) (cg_G a1 a15 r m F i0 j0) (fun z => hp i j hiF hi hjj (by omega) e z) (fun z => nm_r (nI_1 j) (ih (j + 1) (by omega) (by omega) (fun z2 => ?_))) (hx := by rw [i3, nI_clamp (by omega), hg (i + 1) (j + 1) (by omega) (by omega), nI_1])
        subst z2
        have := hij rfl
        by_cases w : j = j1
        · subst w; exact absurd hG z
        · omega
      · subst z
        have := hij rfl
        by_cases w : j = j1
        · subst w; exact absurd hE e
        · omega
  have outer : ∀ d i, i + d = i1 → i0 ≤ i → wX_findPair_16 post (nI r) (nI j0) (nI (cg_G a1 a15 r m F i0 j0)) fu fm fl ft a1 a2 a3 a4 a5 a6 a7 a8 a9 a10 a11 a12 a13 a14 a15 a16 a17 a18 (d + 1) (nI i) := by
    intro d
    induction d with
    | zero =>
      intro i hd hi
      exact ⟨pk_in r 3 hr, pk_le F.length i (fun z => absurd z (by omega)) (fun _ => ⟨m - j0 + 1, inner _ i hi (by omega) (fun z => absurd hd z) (m - j0) j0 (by omega) (by omega) (fun _ => h2)⟩) (hx := by rw [nI_clamp (by omega)]; exact hs)⟩
    | succ d ih =>
      intro i hd hi
      exact ⟨pk_in r 3 hr, pk_le F.length i (fun z => absurd z (by omega)) (fun _ => ⟨m - j0 + 1, inner _ i hi (by omega) (fun _ => ih (i + 1) (by omega) (by omega)) (m - j0) j0 (by omega) (by omega) (fun z => absurd z (by omega))⟩) (hx := by rw [nI_clamp (by omega)]; exact hs)⟩
  exact ⟨_, outer (i1 - i0) i0 (by omega) (by omega)⟩
/-- the pairs as `mate` holds them, from a line and a text on -/
def cg_pr (g a1 a15 : Nat → Int32) (r m : Nat) (F : List Nat) : Nat → Nat → List (Nat × Nat) → Prop
  | i, t, [] => i ≤ F.length ∧ t ≤ m ∧ ∀ k, i ≤ k → k < 20 → g k = -1
  | i, t, (a, b) :: M => i ≤ a ∧ t ≤ b ∧ a < F.length ∧ b < m ∧ cg_lv a1 F a = a15 (20 * r + b) ∧ (∀ k, i ≤ k → k < a → g k = -1) ∧ g a = nI b ∧ cg_pr g a1 a15 r m F (a + 1) (b + 1) M
theorem cg_pr_le {g a1 a15 : Nat → Int32} {r m : Nat} {F : List Nat} (M : List (Nat × Nat)) : ∀ {i t}, cg_pr g a1 a15 r m F i t M → i ≤ F.length ∧ t + M.length ≤ m := by
  induction M with
  | nil => intro i t h; exact ⟨h.1, h.2.1⟩
  | cons p M ih =>
    intro i t h
    obtain ⟨a, b⟩ := p
    obtain ⟨h1, h2, h3, h4, _, _, _, h8⟩ := h
    have := ih h8
    rw [List.length_cons]
    omega
theorem cg_findPairs {post : St1 → Prop} {fu fm fl ft : Int32} {a1 a2 a3 a4 a5 a6 a7 a8 a9 a10 a11 a12 a13 a14 a15 a16 a17 a18 : Nat → Int32} {r m : Nat} {F : List Nat} (hr : r < 3) (hn : F.length ≤ 20) (hm : m ≤ 20) (h6 : ∀ x, x ∈ F → x < 60) (hs : a13 r = nI F.length) (hl : cg_ln a11 r 60 (F ++ [61])) (hc : a14 r = nI m)
    (hp : ∀ fl' ft' b16 b17 b18 M, cg_rw b16 F → cg_gr b17 a1 a15 r m F → cg_pr b18 a1 a15 r m F 0 0 M → M.length = cg_G a1 a15 r m F 0 0 → post (fu, fm, fl', ft', a1, a2, a3, a4, a5, a6, a7, a8, a9, a10, a11, a12, a13, a14, a15, b16, b17, b18)) :
    wpX_findPairs post (fu, fm, fl, ft, a1, a2, a3, a4, a5, a6, a7, a8, a9, a10, a11, a12, a13, a14, a15, a16, a17, a18) (nI r) := by
  unfold wpX_findPairs
  refine cg_compareCopy hr hn hm h6 hs hl hc (fun b16 b17 hb hg => ?_)
  have main : ∀ q i j k fl' ft' (s : Nat → Int32), cg_G a1 a15 r m F i j = q → i ≤ F.length → j ≤ m → k + q ≤ 20 → (∀ t, i ≤ t → t < 20 → s t = -1) →
      (∀ fl' ft' (s' : Nat → Int32) M, cg_pr s' a1 a15 r m F i j M → M.length = q → (∀ t, t < i → s' t = s t) → post (fu, fm, fl', ft', a1, a2, a3, a4, a5, a6, a7, a8, a9, a10, a11, a12, a13, a14, a15, b16, b17, s')) →
      wX_findPairs_33 post (nI r) (q + 1) (nI i) (nI j) (nI k) fu fm fl' ft' a1 a2 a3 a4 a5 a6 a7 a8 a9 a10 a11 a12 a13 a14 a15 b16 b17 s := by
    intro q
    induction q with
    | zero =>
      intro i j k fl' ft' s hq hi hj hk hs1 hpp
      have fin := hpp fl' ft' s [] ⟨hi, hj, hs1⟩ rfl (fun _ _ => rfl)
      refine pk_le 20 k (fun _ => fin) (fun _ => ⟨pk_in (21 * i + j) 441 (by omega) (cg_21 i j), br_t ?_ fin⟩)
      rw [cg_21, nI_clamp (by omega), hg i j hi hj, hq]
      decide
    | succ q ih =>
      intro i j k fl' ft' s hq hi hj hk hs1 hpp
      refine pk_le 20 k (fun z => absurd z (by omega)) (fun _ => ⟨pk_in (21 * i + j) 441 (by omega) (cg_21 i j), br_f ?_ ?_⟩)
      · rw [cg_21, nI_clamp (by omega), hg i j hi hj, hq]
        exact nI_nle (by omega) (by omega)
      · refine cg_findPair hr hn hm h6 hs hc hb hg hi hj (by omega) (fun a b ha h1 h2 h3 h4 h5 => ⟨pk_in a 20 (by omega), nm_r (e' := upd s a (nI b)) (by rw [nI_clamp (by omega)]) (nm_r (nI_1 a) (nm_r (nI_1 b) (nm_r (nI_1 k) ?_)))⟩)
        refine ih (a + 1) (b + 1) (k + 1) (nI a) (nI b) _ (by omega) (by omega) (by omega) (by omega) (fun t ht ht2 => by rw [pk_un (by omega)]; exact hs1 t (by omega) ht2) ?_
        intro fl2 ft2 s' M hM hlen hlow
        refine hpp fl2 ft2 s' ((a, b) :: M) ⟨h1, h2, ha, h3, by rw [cg_lv_in ha]; exact h4, fun t ht1 ht2 => ?_, ?_, hM⟩ (by rw [List.length_cons, hlen]) (fun t ht => ?_)
        · rw [hlow t (by omega), pk_un (by omega)]
          exact hs1 t ht1 (by omega)
        · rw [hlow a (by omega)]
          exact pk_us
        · rw [hlow t (by omega), pk_un (by omega)]
  refine pk_loop (fun n i s => wX_findPairs_7 post (nI r) fu fm fl ft n (nI i) a1 a2 a3 a4 a5 a6 a7 a8 a9 a10 a11 a12 a13 a14 a15 b16 b17 s) (fun i s => ∀ k, k < i → s k = -1) 20 0 a18 (by omega) (fun k hk => absurd hk (by omega)) ?_ ?_
  · intro n s h
    refine pk_le 20 20 (fun _ => ⟨_, main _ 0 0 0 fl ft s rfl (by omega) (by omega) ?_ (fun t _ ht => h t ht) (fun fl' ft' s' M h1 h2 _ => hp fl' ft' b16 b17 s' M hb hg h1 h2)⟩) (fun z => absurd z (by omega))
    have := (cg_G_le a1 a15 r m F 0 0).1
    omega
  · intro n i s hi h hw
    refine pk_le 20 i (fun z => absurd z (by omega)) (fun _ => ⟨pk_in i 20 hi, nm_e (nm_r (nI_1 i) (hw _ ?_))⟩)
    intro k hk
    rw [nI_clamp (by omega)]
    by_cases e : k = i
    · rw [e]; exact pk_us
    · rw [pk_un e]; exact h k (by omega)
/-! ===== stretches, counted ===== -/
def cg_ns (n m : Nat) : Nat → Nat → List (Nat × Nat) → Nat
  | l, t, [] => if l < n ∨ t < m then 1 else 0
  | l, t, (a, b) :: M => (if l < a ∨ t < b then 1 else 0) + cg_ns n m (a + 1) (b + 1) M
theorem cg_ns_le (n m : Nat) (M : List (Nat × Nat)) : ∀ l t, cg_ns n m l t M ≤ M.length + 1 := by
  induction M with
  | nil =>
    intro l t
    show (if l < n ∨ t < m then 1 else 0) ≤ 1
    split <;> omega
  | cons p M ih =>
    intro l t
    obtain ⟨a, b⟩ := p
    have := ih (a + 1) (b + 1)
    show (if l < a ∨ t < b then 1 else 0) + cg_ns n m (a + 1) (b + 1) M ≤ M.length + 1 + 1
    split <;> omega
theorem cg_st112 {post : Int32 → St1 → Prop} {J : Int32 → Int32 → Int32 → Int32 → Int32 → Int32 → Int32 → Int32 → (Nat → Int32) → (Nat → Int32) → (Nat → Int32) → (Nat → Int32) → (Nat → Int32) → (Nat → Int32) → (Nat → Int32) → (Nat → Int32) → (Nat → Int32) → (Nat → Int32) → (Nat → Int32) → (Nat → Int32) → (Nat → Int32) → (Nat → Int32) → (Nat → Int32) → (Nat → Int32) → (Nat → Int32) → (Nat → Int32) → Prop}
    {fu fm fl ft : Int32} {a1 a2 a3 a4 a5 a6 a7 a8 a9 a10 a11 a12 a13 a14 a15 a16 a17 a18 : Nat → Int32} {x1 x2 x3 : Int32} {i to : Nat} (h : J x3 (nI (i + 1)) (nI (to + 1)) (nI (i + 1)) fu fm fl ft a1 a2 a3 a4 a5 a6 a7 a8 a9 a10 a11 a12 a13 a14 a15 a16 a17 a18) : wX_stretches_112 post J x1 x2 x3 (nI i) (nI to) fu fm fl ft a1 a2 a3 a4 a5 a6 a7 a8 a9 a10 a11 a12 a13 a14 a15 a16 a17 a18 :=
  nm_r (nI_1 i) (nm_r (nI_1 to) (nm_r (nI_1 i) h))
theorem cg_st76 {post : Int32 → St1 → Prop} {J : Int32 → Int32 → Int32 → Int32 → Int32 → Int32 → Int32 → Int32 → (Nat → Int32) → (Nat → Int32) → (Nat → Int32) → (Nat → Int32) → (Nat → Int32) → (Nat → Int32) → (Nat → Int32) → (Nat → Int32) → (Nat → Int32) → (Nat → Int32) → (Nat → Int32) → (Nat → Int32) → (Nat → Int32) → (Nat → Int32) → (Nat → Int32) → (Nat → Int32) → (Nat → Int32) → (Nat → Int32) → Prop}
    {fu fm fl ft : Int32} {a1 a2 a3 a4 a5 a6 a7 a8 a9 a10 a11 a12 a13 a14 a15 a16 a17 a18 : Nat → Int32} {x1 x2 x3 : Int32} {l t i to : Nat} (hl : l < 2 ^ 31) (ht : t < 2 ^ 31) (hi : i < 2 ^ 31) (hto : to < 2 ^ 31)
    (h1 : l < i ∨ t < to → wX_stretches_92 post J x1 x2 x3 (nI l) (nI t) (nI i) (nI to) fu fm fl ft a1 a2 a3 a4 a5 a6 a7 a8 a9 a10 a11 a12 a13 a14 a15 a16 a17 a18) (h0 : ¬ (l < i ∨ t < to) → J x3 (nI (i + 1)) (nI (to + 1)) (nI (i + 1)) fu fm fl ft a1 a2 a3 a4 a5 a6 a7 a8 a9 a10 a11 a12 a13 a14 a15 a16 a17 a18) : wX_stretches_76 post J x1 x2 x3 (nI l) (nI t) (nI i) (nI to) fu fm fl ft a1 a2 a3 a4 a5 a6 a7 a8 a9 a10 a11 a12 a13 a14 a15 a16 a17 a18 :=
  pk_lt l i (fun z => h1 (Or.inl z)) (fun z => pk_le to t (fun z2 => cg_st112 (h0 (by omega))) (fun z2 => h1 (Or.inr z2)))
/-- one turn of the loop over the lines -/
theorem cg_st11 {post : Int32 → St1 → Prop} {fu fm fl ft : Int32} {a1 a2 a3 a4 a5 a6 a7 a8 a9 a10 a11 a12 a13 a14 a15 a16 a17 a18 : Nat → Int32} {r m : Nat} {F : List Nat} {b1 : Nat → Int32} (hr : r < 3) (hn : F.length ≤ 20) (hm : m ≤ 20) (hs : a13 r = nI F.length) (hc : a14 r = nI m) {x2 x3 : Int32} {n l t i : Nat} {M : List (Nat × Nat)} (hi : i ≤ F.length)
    (hM : cg_pr a18 b1 a15 r m F i t M)
    (hskip : i < F.length → cg_pr a18 b1 a15 r m F (i + 1) t M → wX_stretches_11 post (nI r) x2 n x3 (nI l) (nI t) (nI (i + 1)) fu fm fl ft a1 a2 a3 a4 a5 a6 a7 a8 a9 a10 a11 a12 a13 a14 a15 a16 a17 a18)
    (hpair : i < F.length → ∀ b M', M = (i, b) :: M' → wX_stretches_76 post (wX_stretches_11 post (nI r) x2 n) (nI r) x2 x3 (nI l) (nI t) (nI i) (nI b) fu fm fl ft a1 a2 a3 a4 a5 a6 a7 a8 a9 a10 a11 a12 a13 a14 a15 a16 a17 a18)
    (hover : i = F.length → M = [] → wX_stretches_76 post (wX_stretches_11 post (nI r) x2 n) (nI r) x2 x3 (nI l) (nI t) (nI i) (nI m) fu fm fl ft a1 a2 a3 a4 a5 a6 a7 a8 a9 a10 a11 a12 a13 a14 a15 a16 a17 a18) :
    wX_stretches_11 post (nI r) x2 (n + 1) x3 (nI l) (nI t) (nI i) fu fm fl ft a1 a2 a3 a4 a5 a6 a7 a8 a9 a10 a11 a12 a13 a14 a15 a16 a17 a18 := by
  refine ⟨pk_in r 3 hr, pk_lt F.length i (fun z => absurd z (by omega)) (fun _ => ⟨pk_in r 3 hr, pk_eq i F.length (fun z => br_f (by decide) (br_f (by decide) ⟨pk_in r 3 hr, ?_⟩)) (fun z => br_t rfl ⟨pk_in i 20 (by omega), ?_⟩) (hy := by rw [nI_clamp (by omega)]; exact hs)⟩) (hx := by rw [nI_clamp (by omega)]; exact hs)⟩
  · rw [nI_clamp (by omega), hc]
    refine hover z ?_
    cases M with
    | nil => rfl
    | cons p M =>
      obtain ⟨a, b⟩ := p
      obtain ⟨h1, _, h3, _⟩ := hM
      omega
  · rw [nI_clamp (by omega)]
    have hi' : i < F.length := by omega
    cases M with
    | nil =>
      obtain ⟨h1, h2, h3⟩ := hM
      refine br_t (by rw [h3 i (by omega) (by omega)]; decide) (nm_r (nI_1 i) (hskip hi' ⟨by omega, h2, fun k h4 h5 => h3 k (by omega) h5⟩))
    | cons p M =>
      obtain ⟨a, b⟩ := p
      obtain ⟨h1, h2, h3, h4, h5, h6, h7, h8⟩ := hM
      by_cases e : a = i
      · subst e
        rw [h7]
        refine br_f (nI_pos (by omega)) (br_t rfl ⟨pk_in a 20 (by omega), ?_⟩)
        rw [nI_clamp (by omega), h7]
        exact hpair hi' b M rfl
      · refine br_t (by rw [h6 i (by omega) (by omega)]; decide) (nm_r (nI_1 i) (hskip hi' ⟨by omega, h2, h3, h4, h5, fun k h9 h10 => h6 k (by omega) h10, h7, h8⟩))
theorem cg_stEnd {post : Int32 → St1 → Prop} {fu fm fl ft : Int32} {a1 a2 a3 a4 a5 a6 a7 a8 a9 a10 a11 a12 a13 a14 a15 a16 a17 a18 : Nat → Int32} {r : Nat} {F : List Nat} (hr : r < 3) (hn : F.length ≤ 20) (hs : a13 r = nI F.length) {x2 x3 x4 x5 : Int32} {n : Nat} (hp : post x3 (fu, fm, fl, ft, a1, a2, a3, a4, a5, a6, a7, a8, a9, a10, a11, a12, a13, a14, a15, a16, a17, a18)) : wX_stretches_11 post (nI r) x2 (n + 1) x3 x4 x5 (nI (F.length + 1)) fu fm fl ft a1 a2 a3 a4 a5 a6 a7 a8 a9 a10 a11 a12 a13 a14 a15 a16 a17 a18 :=
  ⟨pk_in r 3 hr, pk_lt F.length (F.length + 1) (fun _ => hp) (fun z => absurd z (by omega)) (hx := by rw [nI_clamp (by omega)]; exact hs)⟩
/-- the first pass: it counts -/
theorem cg_pass1 {post : Int32 → St1 → Prop} {fu fm fl ft : Int32} {a1 a2 a3 a4 a5 a6 a7 a8 a9 a10 a11 a12 a13 a14 a15 a16 a17 a18 : Nat → Int32} {r m : Nat} {F : List Nat} {M : List (Nat × Nat)} {b1 : Nat → Int32} (hr : r < 3) (hn : F.length ≤ 20) (hm : m ≤ 20) (hs : a13 r = nI F.length) (hc : a14 r = nI m)
    (hM : cg_pr a18 b1 a15 r m F 0 0 M) (hp : post (nI (cg_ns F.length m 0 0 M)) (fu, fm, fl, ft, a1, a2, a3, a4, a5, a6, a7, a8, a9, a10, a11, a12, a13, a14, a15, a16, a17, a18)) : wpX_stretches post (fu, fm, fl, ft, a1, a2, a3, a4, a5, a6, a7, a8, a9, a10, a11, a12, a13, a14, a15, a16, a17, a18) (nI r) 0 := by
  have main : ∀ d i l t cnt M, i + d = F.length → l ≤ i → t ≤ m → cg_pr a18 b1 a15 r m F i t M → post (nI (cnt + cg_ns F.length m l t M)) (fu, fm, fl, ft, a1, a2, a3, a4, a5, a6, a7, a8, a9, a10, a11, a12, a13, a14, a15, a16, a17, a18) →
      wX_stretches_11 post (nI r) 0 (d + 2) (nI cnt) (nI l) (nI t) (nI i) fu fm fl ft a1 a2 a3 a4 a5 a6 a7 a8 a9 a10 a11 a12 a13 a14 a15 a16 a17 a18 := by
    intro d
    induction d with
    | zero =>
      intro i l t cnt M hi hl ht hM hp
      refine cg_st11 hr hn hm hs hc (by omega) hM (fun z => absurd z (by omega)) (fun z => absurd z (by omega)) (fun z hz => ?_)
      subst z
      subst hz
      refine cg_st76 (by omega) (by omega) (by omega) (by omega) (fun z => br_t rfl (nm_r (nI_1 cnt) (cg_st112 (cg_stEnd hr hn hs ?_)))) (fun z => cg_stEnd hr hn hs ?_)
      · rw [show cg_ns F.length m l t [] = 1 from if_pos z] at hp
        exact hp
      · rw [show cg_ns F.length m l t [] = 0 from if_neg z] at hp
        exact hp
    | succ d ih =>
      intro i l t cnt M hi hl ht hM hp
      refine cg_st11 hr hn hm hs hc (by omega) hM (fun z hM' => ih (i + 1) l t cnt M (by omega) (by omega) ht hM' hp) (fun z b M' hz => ?_) (fun z => absurd z (by omega))
      subst hz
      obtain ⟨h1, h2, h3, h4, h5, h6, h7, h8⟩ := hM
      refine cg_st76 (by omega) (by omega) (by omega) (by omega) (fun z => br_t rfl (nm_r (nI_1 cnt) (cg_st112 (ih (i + 1) (i + 1) (b + 1) (cnt + 1) M' (by omega) (by omega) (by omega) h8 ?_)))) (fun z => ih (i + 1) (i + 1) (b + 1) cnt M' (by omega) (by omega) (by omega) h8 ?_)
      · rw [show cg_ns F.length m l t ((i, b) :: M') = 1 + cg_ns F.length m (i + 1) (b + 1) M' by show (if l < i ∨ t < b then 1 else 0) + _ = _; rw [if_pos z], ← Nat.add_assoc] at hp
        exact hp
      · rw [show cg_ns F.length m l t ((i, b) :: M') = cg_ns F.length m (i + 1) (b + 1) M' by show (if l < i ∨ t < b then 1 else 0) + _ = _; rw [if_neg z, Nat.zero_add]] at hp
        exact hp
  exact ⟨_, main F.length 0 0 0 0 M (by omega) (by omega) (by omega) hM (by rw [Nat.zero_add]; exact hp)⟩
end
section
/-! ===== what a change needs: only `needed` is stored ===== -/
theorem cg_putTogether {post : Int32 → Prop} {fu fm fl ft : Int32} {a1 a2 a3 a4 a5 a6 a7 a8 a9 a10 a11 a12 a13 a14 a15 a16 a17 a18 : Nat → Int32} {d : Nat} {x y : Int32} (hd : d < 16) (h1 : post 1) (h0 : post 0) : wpX_putTogether post (fu, fm, fl, ft, a1, a2, a3, a4, a5, a6, a7, a8, a9, a10, a11, a12, a13, a14, a15, a16, a17, a18) (nI d) x y := by
  have i := pk_in d 16 hd
  have p98 : ∀ z, wX_putTogether_98 post (nI d) x y z fu fm fl ft a1 a2 a3 a4 a5 a6 a7 a8 a9 a10 a11 a12 a13 a14 a15 a16 a17 a18 := fun z => br_t rfl h0
  have p125 : ∀ z w, wX_putTogether_125 post z w fu fm fl ft a1 a2 a3 a4 a5 a6 a7 a8 a9 a10 a11 a12 a13 a14 a15 a16 a17 a18 := fun z w => br_c (fun _ => h1) (fun _ => h0)
  have p99 : ∀ z, wX_putTogether_99 post (nI d) x y z 1 fu fm fl ft a1 a2 a3 a4 a5 a6 a7 a8 a9 a10 a11 a12 a13 a14 a15 a16 a17 a18 := fun z => br_f (by decide) (br_c (fun _ => ⟨i, p125 _ _⟩) (fun _ => p125 _ _))
  refine ⟨i, i, nm_e ⟨i, br_c (fun _ => ⟨i, br_c (fun _ => ⟨i, br_c (fun _ => h1) (fun _ => h0)⟩) (fun _ => h0)⟩) (fun _ => ⟨i, br_c (fun _ => ⟨i, br_c (fun _ => h1) (fun _ => h0)⟩) (fun _ => ⟨i, br_c (fun _ => p98 _) (fun _ => br_c (fun _ => p98 _) (fun _ => p99 _))⟩)⟩)⟩⟩
theorem cg_makerOf {post : Int32 → Prop} {fu fm fl ft : Int32} {a1 a2 a3 a4 a5 a6 a7 a8 a9 a10 a11 a12 a13 a14 a15 a16 a17 a18 : Nat → Int32} {r mu : Nat} {x y : Int32} (hr : r < 3) (hm : mu ≤ 16) (hf : fm = nI mu) (h1 : ∀ d, d < mu → post (nI d)) (h0 : post (-1)) : wpX_makerOf post (fu, fm, fl, ft, a1, a2, a3, a4, a5, a6, a7, a8, a9, a10, a11, a12, a13, a14, a15, a16, a17, a18) (nI r) x y := by
  have main : ∀ k, k ≤ mu → wX_makerOf_8 post (nI r) x y fu fm fl ft a1 a2 a3 a4 a5 a6 a7 a8 a9 a10 a11 a12 a13 a14 a15 a16 a17 a18 (k + 1) (nI k + (-1)) := by
    intro k
    induction k with
    | zero => intro _; exact br_t (by decide) h0
    | succ k ih =>
      intro hk
      rw [pk_m1]
      exact pk_lt k 0 (fun z => absurd z (by omega)) (fun _ => cg_holds hr (by omega) (fun _ => br_f (by decide) (cg_putTogether (by omega) (br_f (by decide) (h1 k (by omega))) (br_t rfl (nm_e (ih (by omega)))))) (fun _ => br_t rfl (nm_e (ih (by omega)))))
  exact nm_r (e' := nI mu + (-1)) (by rw [hf]; exact Int32.sub_eq_add_neg _ _) ⟨mu + 1, main mu (Nat.le_refl _)⟩
theorem cg_findNeeds {post : St1 → Prop} {fu fm fl ft : Int32} {a1 a2 a3 a4 a5 a6 a7 a8 a9 a10 a11 a12 a13 a14 a15 a16 a17 a18 : Nat → Int32} {r mu c k : Nat} (hr : r < 3) (hm : mu ≤ 16) (hc : c < 16) (hf : fm = nI mu) (h7 : a7 c = nI k) (hk : k ≤ 20) (hp : ∀ b9, post (fu, fm, fl, ft, a1, a2, a3, a4, a5, a6, a7, a8, b9, a10, a11, a12, a13, a14, a15, a16, a17, a18)) : wpX_findNeeds post (fu, fm, fl, ft, a1, a2, a3, a4, a5, a6, a7, a8, a9, a10, a11, a12, a13, a14, a15, a16, a17, a18) (nI r) (nI c) := by
  have i := pk_in c 16 hc
  have cc : (nI c).toNatClampNeg = c := nI_clamp (by omega)
  refine ⟨i, nm_e ⟨i, nm_e ?_⟩⟩
  refine pk_loop (fun n i s => wX_findNeeds_17 post (nI r) (nI c) fu fm fl ft n s.1 (nI i) a1 a2 a3 a4 a5 a6 a7 a8 s.2 a10 a11 a12 a13 a14 a15 a16 a17 a18) (fun _ _ => True) (k + 1) 0 (_, _) (by omega) trivial ?_ ?_
  · intro n s _
    exact ⟨i, pk_lt k (k + 1) (fun _ => hp s.2) (fun z => absurd z (by omega)) (hx := by rw [cc]; exact h7)⟩
  · intro n j s hj _ hw
    have f60 : ∀ z0, wX_findNeeds_60 post (wX_findNeeds_17 post (nI r) (nI c) fu fm fl ft n) (nI r) (nI c) s.1 (nI j) z0 fu fm fl ft a1 a2 a3 a4 a5 a6 a7 a8 s.2 a10 a11 a12 a13 a14 a15 a16 a17 a18 := by
      intro z0
      exact cg_makerOf hr hm hf (fun d hd => br_f (nI_pos (by omega)) ⟨i, pk_in d 16 (by omega), i, nm_e (nm_r (nI_1 j) (hw (z0, _) trivial))⟩) (br_t (by decide) (nm_r (nI_1 j) (hw (z0, s.2) trivial)))
    exact ⟨i, pk_lt k j (fun z => absurd z (by omega)) (fun _ => ⟨i, pk_le k j (fun _ => ⟨i, f60 _⟩) (fun z => ⟨pk_in (20 * c + j) 320 (by omega) (cg_20 c j), f60 _⟩) (hx := by rw [cc]; exact h7)⟩) (hx := by rw [cc]; exact h7)⟩
/-! ===== a new change ===== -/
def cg_new (K : cg_K) (us mu : Nat) (F : List Nat) (l i t to : Nat) : cg_K := fun c => if c = mu then (cg_la 60 (F.take l), cg_hd 61 (F.drop i), (F.drop l).take (i - l), List.range' us (to - t)) else K c
theorem cg_new_old {K : cg_K} {us mu : Nat} {F : List Nat} {l i t to c : Nat} (h : c < mu) : cg_new K us mu F l i t to c = K c := if_neg (by omega)
theorem cg_new_at {K : cg_K} {us mu : Nat} {F : List Nat} {l i t to : Nat} : cg_new K us mu F l i t to mu = (cg_la 60 (F.take l), cg_hd 61 (F.drop i), (F.drop l).take (i - l), List.range' us (to - t)) := if_pos rfl
/-- the table with the new change -/
theorem cg_tab_new {K : cg_K} {us mu : Nat} {fu fm : Int32} {a3 a4 a5 a6 a7 a8 b8 : Nat → Int32} (ht : cg_tab K us mu fu fm a3 a4 a5 a6 a7 a8) {F : List Nat} {l i t to : Nat} (hmu : mu < 16) (hli : l ≤ i) (hi : i ≤ F.length) (hn : F.length ≤ 20) (hto : t ≤ to) (hus : us + (to - t) ≤ 60)
    (nF : F.Nodup) (lF : ∀ x, x ∈ F → x < 60) (h8 : ∀ (k : Nat) (h : l + k < F.length), k < i - l → b8 (20 * mu + k) = nI (F[l + k])) (h8' : ∀ j, j < 20 * mu → b8 j = a8 j) :
    cg_tab (cg_new K us mu F l i t to) (us + (to - t)) (mu + 1) (nI (us + (to - t))) (nI (mu + 1)) (upd a3 mu (nI (cg_la 60 (F.take l)))) (upd a4 mu (nI (cg_hd 61 (F.drop i)))) (upd a5 mu (nI us)) (upd a6 mu (nI (to - t))) (upd a7 mu (nI (i - l))) b8 := by
  obtain ⟨t1, t2, t3, t4, t5, t6⟩ := ht
  have eb : cg_kb (cg_new K us mu F l i t to) mu = cg_la 60 (F.take l) := congrArg (fun k => k.1) cg_new_at
  have ee : cg_ke (cg_new K us mu F l i t to) mu = cg_hd 61 (F.drop i) := congrArg (fun k => k.2.1) cg_new_at
  have eT : cg_kT (cg_new K us mu F l i t to) mu = (F.drop l).take (i - l) := congrArg (fun k => k.2.2.1) cg_new_at
  have eP : cg_kP (cg_new K us mu F l i t to) mu = List.range' us (to - t) := congrArg (fun k => k.2.2.2) cg_new_at
  have oP : ∀ c, c < mu → cg_kP (cg_new K us mu F l i t to) c = cg_kP K c := fun c hc => congrArg (fun k => k.2.2.2) (cg_new_old hc)
  have memP : ∀ c, c < mu → ∀ x, x ∈ cg_kP K c → x < us := fun c hc x hx => by
    obtain ⟨_, _, _, _, ⟨p, _, h2, h3⟩, _⟩ := t5 c hc
    rw [h2] at hx
    have := List.mem_range'_1.mp hx
    omega
  refine ⟨rfl, hus, rfl, by omega, ?_, ?_⟩
  · intro c hc
    by_cases e : c = mu
    · subst e
      have lenT : (cg_kT (cg_new K us c F l i t to) c).length = i - l := by
        rw [eT, List.length_take, List.length_drop]
        omega
      have lenP : (cg_kP (cg_new K us c F l i t to) c).length = to - t := by
        rw [eP, List.length_range']
      refine ⟨by rw [pk_us, eb], ?_, by rw [pk_us, ee], ?_, ⟨us, pk_us, by rw [lenP, eP], by rw [lenP]; omega⟩, by rw [pk_us, lenP], by rw [pk_us, lenT], by omega, ?_, ?_, ?_⟩
      · rw [eb]
        rcases List.mem_cons.mp (cg_la_mem (F.take l) 60) with z | z
        · omega
        · have := lF _ (List.mem_of_mem_take z); omega
      · rw [ee]
        exact cg_hd61 lF (List.take_append_drop i F).symm
      · intro k hk
        rw [lenT] at hk
        have h2 : l + k < F.length := by omega
        rw [h8 k h2 hk]
        congr 1
        have h3 : (cg_kT (cg_new K us c F l i t to) c)[k]? = some F[l + k] := by
          rw [eT, List.getElem?_take_of_lt hk, List.getElem?_drop, List.getElem?_eq_getElem h2]
        rw [List.getElem?_eq_getElem (by omega)] at h3
        exact (Option.some.inj h3).symm
      · rw [eT]
        exact List.Pairwise.sublist ((List.take_sublist _ _).trans (List.drop_sublist _ _)) nF
      · intro x hx
        rw [eT] at hx
        exact lF x (List.mem_of_mem_drop (List.mem_of_mem_take hx))
    · have hc' : c < mu := by omega
      obtain ⟨e3, b3, e4, b4, ⟨p, e5, eP', bP⟩, e6, e7, b7, e8, nT, lT⟩ := t5 c hc'
      unfold cg_row cg_kb cg_ke cg_kT cg_kP
      rw [cg_new_old hc', pk_un e, pk_un e, pk_un e, pk_un e, pk_un e]
      exact ⟨e3, b3, e4, b4, ⟨p, e5, eP', Nat.le_trans bP (by omega)⟩, e6, e7, b7, fun k hk => by
        have hk20 : k < 20 := Nat.lt_of_lt_of_le hk b7
        rw [h8' _ (by omega)]
        exact e8 k hk, nT, lT⟩
  · intro c d hc hd hcd x hx
    by_cases e : c = mu
    · have hd' : d < mu := by omega
      rw [oP d hd']
      rw [e, eP] at hx
      have h1 := List.mem_range'_1.mp hx
      intro z
      have := memP d hd' x z
      omega
    · have hc' : c < mu := by omega
      rw [oP c hc'] at hx
      have h1 := memP c hc' x hx
      by_cases e2 : d = mu
      · rw [e2, eP]
        intro z
        have := List.mem_range'_1.mp z
        omega
      · rw [oP d (by omega)]
        exact t6 c d hc' (by omega) hcd x hx
theorem cg_describe {post : St1 → Prop} {fu fm fl ft : Int32} {a1 a2 a3 a4 a5 a6 a7 a8 a9 a10 a11 a12 a13 a14 a15 a16 a17 a18 : Nat → Int32} {K : cg_K} {us mu r l i t to : Nat} {F : List Nat} (hr : r < 3) (ht : cg_tab K us mu fu fm a3 a4 a5 a6 a7 a8) (hmu : mu < 16) (hli : l ≤ i) (hi : i ≤ F.length) (hn : F.length ≤ 20) (htt : t ≤ to) (hto : to ≤ 20) (hus : us + (to - t) ≤ 60)
    (nF : F.Nodup) (lF : ∀ x, x ∈ F → x < 60) (hs : a13 r = nI F.length) (hrow : cg_rw a16 F)
    (hp : ∀ b1 b2 b3 b4 b5 b6 b7 b8 b9, cg_tab (cg_new K us mu F l i t to) (us + (to - t)) (mu + 1) (nI (us + (to - t))) (nI (mu + 1)) b3 b4 b5 b6 b7 b8 → (∀ j, j < us → b1 j = a1 j ∧ b2 j = a2 j) → (∀ k, k < to - t → b1 (us + k) = a15 (20 * r + (t + k))) →
      post (nI (us + (to - t)), nI (mu + 1), fl, ft, b1, b2, b3, b4, b5, b6, b7, b8, b9, a10, a11, a12, a13, a14, a15, a16, a17, a18)) :
    wpX_describe post (fu, fm, fl, ft, a1, a2, a3, a4, a5, a6, a7, a8, a9, a10, a11, a12, a13, a14, a15, a16, a17, a18) (nI r) (nI l) (nI i) (nI t) (nI to) := by
  have hfu := ht.1
  have hfm := ht.2.2.1
  have cm : (nI mu).toNatClampNeg = mu := nI_clamp (by omega)
  have im := pk_in mu 16 hmu
  -- behind both edges
  have d67 : ∀ z0, z0 = nI (cg_hd 61 (F.drop i)) → wX_describe_67 post (nI r) (nI l) (nI i) (nI t) (nI to) (nI mu) z0 (nI mu) fu (nI (mu + 1)) fl ft a1 a2 (upd a3 mu (nI (cg_la 60 (F.take l)))) a4 a5 a6 a7 a8 a9 a10 a11 a12 a13 a14 a15 a16 a17 a18 := by
    intro z0 hz
    subst hz
    refine ⟨im, nm_r (e' := upd a4 mu (nI (cg_hd 61 (F.drop i)))) (by rw [cm]) ⟨im, nm_r (e' := upd a7 mu (nI (i - l))) (by rw [cm, pk_sub hli]) ?_⟩⟩
    refine Exists.elim (pk_loop (fun n k s => wX_describe_81 post (nI r) (nI l) (nI i) (nI t) (nI to) (nI mu) fu (nI (mu + 1)) fl ft n (nI (l + k)) a1 a2 (upd a3 mu (nI (cg_la 60 (F.take l)))) (upd a4 mu (nI (cg_hd 61 (F.drop i)))) a5 a6 (upd a7 mu (nI (i - l))) s a9 a10 a11 a12 a13 a14 a15 a16 a17 a18)
      (fun k s => (∀ j (h : l + j < F.length), j < k → s (20 * mu + j) = nI (F[l + j])) ∧ ∀ j, j < 20 * mu → s j = a8 j) (i - l) 0 a8 (by omega) ⟨fun j _ h => absurd h (by omega), fun _ _ => rfl⟩ ?_ ?_) (fun n hn => ⟨n, hn⟩)
    · intro n s h
      have tab := cg_tab_new (b8 := s) ht hmu hli hi hn htt hus nF lF h.1 h.2
      refine pk_le i (l + (i - l)) (fun _ => ⟨im, nm_r (e' := upd a5 mu (nI us)) (by rw [cm, hfu]) ⟨im, nm_r (e' := upd a6 mu (nI (to - t))) (by rw [cm, pk_sub htt]) ?_⟩⟩) (fun z => absurd z (by omega))
      rw [hfu]
      refine Exists.elim (pk_loop (fun n k s2 => wX_describe_142 post (nI r) (nI to) (nI mu) (nI (mu + 1)) fl ft n (nI (t + k)) (nI (us + k)) s2.1 s2.2 (upd a3 mu (nI (cg_la 60 (F.take l)))) (upd a4 mu (nI (cg_hd 61 (F.drop i)))) (upd a5 mu (nI us)) (upd a6 mu (nI (to - t))) (upd a7 mu (nI (i - l))) s a9 a10 a11 a12 a13 a14 a15 a16 a17 a18)
        (fun k s2 => (∀ j, j < us → s2.1 j = a1 j ∧ s2.2 j = a2 j) ∧ ∀ j, j < k → s2.1 (us + j) = a15 (20 * r + (t + j))) (to - t) 0 (a1, a2) (by omega) ⟨fun _ _ => ⟨rfl, rfl⟩, fun j h => absurd h (by omega)⟩ ?_ ?_) (fun n hn => ⟨n, hn⟩)
      · intro n s2 h2
        exact pk_le to (t + (to - t)) (fun _ => cg_findNeeds (mu := mu + 1) (k := i - l) hr (by omega) hmu rfl pk_us (by omega) (fun b9 => hp s2.1 s2.2 _ _ _ _ _ _ b9 tab h2.1 h2.2)) (fun z => absurd z (by omega))
      · intro n k s2 hk h2 hw
        refine pk_le to (t + k) (fun z => absurd z (by omega)) (fun _ => ⟨cg_20i hr (by omega), pk_in (us + k) 60 (by omega), nm_r (e' := upd s2.1 (us + k) (a15 (20 * r + (t + k)))) (by rw [nI_clamp (by omega), cg_20c hr (by omega)]) ⟨pk_in (us + k) 60 (by omega), nm_r (e' := upd s2.2 (us + k) (nI mu)) (by rw [nI_clamp (by omega)]) (nm_r (nI_1 (us + k)) (nm_r (nI_1 (t + k)) (hw (_, _) ⟨?_, ?_⟩)))⟩⟩)
        · intro j hj
          show upd s2.1 (us + k) _ j = a1 j ∧ upd s2.2 (us + k) _ j = a2 j
          rw [pk_un (by omega), pk_un (by omega)]
          exact h2.1 j hj
        · intro j hj
          show upd s2.1 (us + k) _ (us + j) = _
          by_cases e : j = k
          · rw [e]; exact pk_us
          · rw [pk_un (by omega)]
            exact h2.2 j (by omega)
    · intro n k s hk h hw
      have hlk : l + k < F.length := by omega
      have ix : (20 : Int32) * nI mu + nI (l + k) - nI l = nI (20 * mu + k) := by
        rw [cg_20, pk_sub (by omega)]
        congr 1
        omega
      refine pk_le i (l + k) (fun z => absurd z (by omega)) (fun _ => ⟨pk_in (l + k) 20 (by omega), pk_in (20 * mu + k) 320 (by omega) ix, nm_r (e' := upd s (20 * mu + k) (nI (F[l + k]))) (by rw [ix, nI_clamp (by omega), nI_clamp (by omega), hrow (l + k) hlk]) (nm_r (nI_1 (l + k)) (hw _ ⟨?_, ?_⟩))⟩)
      · intro j hj hjk
        by_cases e : j = k
        · subst e
          exact pk_us
        · rw [pk_un (by omega)]
          exact h.1 j hj (by omega)
      · intro j hj
        rw [pk_un (by omega)]
        exact h.2 j hj
  have d39 : ∀ z0, z0 = nI (cg_la 60 (F.take l)) → wX_describe_39 post (nI r) (nI l) (nI i) (nI t) (nI to) (nI mu) z0 (nI mu) fu (nI (mu + 1)) fl ft a1 a2 a3 a4 a5 a6 a7 a8 a9 a10 a11 a12 a13 a14 a15 a16 a17 a18 := by
    intro z0 hz
    subst hz
    refine ⟨im, nm_r (e' := upd a3 mu (nI (cg_la 60 (F.take l)))) (by rw [cm]) ⟨pk_in r 3 hr, pk_eq i F.length (fun z => d67 61 ?_) (fun z => ⟨pk_in i 20 (by omega), d67 _ ?_⟩) (hy := by rw [nI_clamp (by omega)]; exact hs)⟩⟩
    · rw [cg_dropE (by omega)]
      rfl
    · have hi' : i < F.length := by omega
      rw [nI_clamp (by omega), hrow i hi', cg_drop hi']
  rw [hfm]
  refine nm_r (nI_1 mu) (pk_eq l 0 (fun z => d39 60 ?_) (fun z => ⟨pk_in (l - 1) 20 (by omega) ?_, d39 _ ?_⟩))
  · subst z
    rfl
  · exact pk_sub (a := l) (b := 1) (by omega)
  · have hl' : l - 1 < F.length := by omega
    rw [show nI l - 1 = nI (l - 1) from pk_sub (a := l) (b := 1) (by omega), nI_clamp (by omega), hrow (l - 1) hl', ← cg_take hl', show l - 1 + 1 = l by omega]
end
section
/-! ===== the second pass: stretches become changes ===== -/
/-- the table so far, and the file that its new changes lead to: A, then the lines of F from i on -/
def cg_q (K0 : cg_K) (us0 mu0 : Nat) (F : List Nat) (a15 c1 c2 : Nat → Int32) (r m q0 N i t ml rest : Nat) (fu fm : Int32) (a1 a2 a3 a4 a5 a6 a7 a8 : Nat → Int32) (A : List Nat) : Prop :=
  ∃ (K : cg_K) (us mu : Nat) (Gs : Nat → List Nat), cg_tab K us mu fu fm a3 a4 a5 a6 a7 a8 ∧ (∀ c, c < mu0 → K c = K0 c) ∧ mu0 ≤ mu ∧ us0 ≤ us ∧ (∀ j, j < us0 → a1 j = c1 j ∧ a2 j = c2 j) ∧
    Gs mu0 = F ∧ Gs mu = A ++ F.drop i ∧ (∀ c, mu0 ≤ c → c < mu → cg_stp K c (Gs c) (Gs (c + 1))) ∧ A.map a1 = (cg_cp a15 r m).take t ∧ (∀ x, x ∈ A → x < us) ∧
    us + q0 = us0 + t + ml ∧ mu + rest = mu0 + N
theorem cg_stp_congr {K K' : cg_K} {c : Nat} {F G : List Nat} (h : K' c = K c) (hs : cg_stp K c F G) : cg_stp K' c F G := by
  unfold cg_stp cg_kb cg_ke cg_kT cg_kP at *
  rw [h]
  exact hs
theorem cg_take_add (L : List Int32) {t to : Nat} (h : t ≤ to) : L.take to = L.take t ++ (L.drop t).take (to - t) := by
  rw [← List.take_add, show t + (to - t) = to by omega]
theorem cg_map_new {b1 a15 : Nat → Int32} {us r m t to : Nat} (h : t ≤ to) (hm : to ≤ m) (hb : ∀ k, k < to - t → b1 (us + k) = a15 (20 * r + (t + k))) : (List.range' us (to - t)).map b1 = ((cg_cp a15 r m).drop t).take (to - t) := by
  apply List.ext_getElem
  · rw [List.length_map, List.length_range', List.length_take, List.length_drop, cg_cp_len]
    omega
  · intro k h1 h2
    rw [List.length_map, List.length_range'] at h1
    rw [List.getElem_map, List.getElem_range', List.getElem_take, List.getElem_drop, cg_cp_at, Nat.one_mul]
    exact hb k h1
theorem cg_map_congr {a1 b1 : Nat → Int32} {A : List Nat} (h : ∀ x, x ∈ A → b1 x = a1 x) : A.map b1 = A.map a1 := List.map_congr_left h
theorem cg_descq {post : St1 → Prop} {fu fm fl ft : Int32} {a1 a2 a3 a4 a5 a6 a7 a8 a9 a10 a11 a12 a13 a14 a15 a16 a17 a18 : Nat → Int32} {K0 : cg_K} {us0 mu0 r m q0 N l i t to ml rest : Nat} {F A : List Nat} {c1 c2 : Nat → Int32} (hr : r < 3)
    (hq : cg_q K0 us0 mu0 F a15 c1 c2 r m q0 N l t ml (1 + rest) fu fm a1 a2 a3 a4 a5 a6 a7 a8 A) (hla : cg_la 60 A = cg_la 60 (F.take l)) (hN : mu0 + N ≤ 16) (hli : l ≤ i) (hi : i ≤ F.length) (hn : F.length ≤ 20) (htt : t ≤ to) (htm : to ≤ m) (hm : m ≤ 20)
    (hus : us0 + to + ml ≤ 60 + q0) (nF : F.Nodup) (lF : ∀ x, x ∈ F → x < 60) (hs : a13 r = nI F.length) (hrow : cg_rw a16 F)
    (hp : ∀ fu' fm' b1 b2 b3 b4 b5 b6 b7 b8 b9 A', cg_q K0 us0 mu0 F a15 c1 c2 r m q0 N i to ml rest fu' fm' b1 b2 b3 b4 b5 b6 b7 b8 A' →
      post (fu', fm', fl, ft, b1, b2, b3, b4, b5, b6, b7, b8, b9, a10, a11, a12, a13, a14, a15, a16, a17, a18)) :
    wpX_describe post (fu, fm, fl, ft, a1, a2, a3, a4, a5, a6, a7, a8, a9, a10, a11, a12, a13, a14, a15, a16, a17, a18) (nI r) (nI l) (nI i) (nI t) (nI to) := by
  obtain ⟨K, us, mu, Gs, h1, h2, h3, h4, h5, h6, h7, h8, h9, h10, h11, h12⟩ := hq
  refine cg_describe hr h1 (by omega) hli hi hn htt (by omega) (by omega) nF lF hs hrow (fun b1 b2 b3 b4 b5 b6 b7 b8 b9 ht hb hb' => ?_)
  refine hp _ _ b1 b2 b3 b4 b5 b6 b7 b8 b9 (A ++ List.range' us (to - t)) ⟨cg_new K us mu F l i t to, us + (to - t), mu + 1, fun c => if c ≤ mu then Gs c else (A ++ List.range' us (to - t)) ++ F.drop i, ht, ?_, by omega, by omega, ?_, ?_, ?_, ?_, ?_, ?_, by omega, by omega⟩
  · intro c hc
    rw [cg_new_old (by omega)]
    exact h2 c hc
  · intro j hj
    have e := hb j (by omega)
    rw [e.1, e.2]
    exact h5 j hj
  · show (if mu0 ≤ mu then Gs mu0 else _) = F
    rw [if_pos h3]
    exact h6
  · show (if mu + 1 ≤ mu then Gs (mu + 1) else _) = _
    rw [if_neg (by omega)]
  · intro c hc1 hc2
    show cg_stp _ c (if c ≤ mu then Gs c else _) (if c + 1 ≤ mu then Gs (c + 1) else _)
    by_cases e : c = mu
    · subst e
      rw [if_pos (Nat.le_refl _), if_neg (by omega), h7]
      refine ⟨A, F.drop i, ?_, ?_, ?_, ?_⟩
      · rw [show cg_kT (cg_new K us c F l i t to) c = (F.drop l).take (i - l) from congrArg (fun k => k.2.2.1) cg_new_at, List.append_assoc]
        congr 1
        have := (List.take_append_drop (i - l) (F.drop l)).symm
        rw [List.drop_drop, show l + (i - l) = i by omega] at this
        exact this
      · rw [show cg_kP (cg_new K us c F l i t to) c = List.range' us (to - t) from congrArg (fun k => k.2.2.2) cg_new_at]
      · rw [show cg_kb (cg_new K us c F l i t to) c = cg_la 60 (F.take l) from congrArg (fun k => k.1) cg_new_at]
        exact hla
      · exact (show cg_ke (cg_new K us c F l i t to) c = cg_hd 61 (F.drop i) from congrArg (fun k => k.2.1) cg_new_at).symm
    · rw [if_pos (by omega), if_pos (by omega)]
      exact cg_stp_congr (cg_new_old (by omega)) (h8 c hc1 (by omega))
  · rw [List.map_append, cg_map_congr (fun x hx => (hb x (h10 x hx)).1), h9, cg_map_new htt htm hb', ← cg_take_add _ htt]
  · intro x hx
    rcases List.mem_append.mp hx with z | z
    · have := h10 x z; omega
    · have := List.mem_range'_1.mp z; omega
/-- a pair goes over -/
theorem cg_qpair {K0 : cg_K} {us0 mu0 r m q0 N i b ml rest : Nat} {F A : List Nat} {a15 c1 c2 : Nat → Int32} {fu fm : Int32} {a1 a2 a3 a4 a5 a6 a7 a8 : Nat → Int32}
    (hq : cg_q K0 us0 mu0 F a15 c1 c2 r m q0 N i b (ml + 1) rest fu fm a1 a2 a3 a4 a5 a6 a7 a8 A) (hi : i < F.length) (hb : b < m) (he : cg_lv c1 F i = a15 (20 * r + b)) (hF : ∀ x, x ∈ F → x < us0) :
    cg_q K0 us0 mu0 F a15 c1 c2 r m q0 N (i + 1) (b + 1) ml rest fu fm a1 a2 a3 a4 a5 a6 a7 a8 (A ++ [F[i]]) ∧ cg_la 60 (A ++ [F[i]]) = cg_la 60 (F.take (i + 1)) := by
  obtain ⟨K, us, mu, Gs, h1, h2, h3, h4, h5, h6, h7, h8, h9, h10, h11, h12⟩ := hq
  have hx := hF F[i] (List.getElem_mem hi)
  refine ⟨⟨K, us, mu, Gs, h1, h2, h3, h4, h5, h6, ?_, h8, ?_, ?_, by omega, h12⟩, ?_⟩
  · rw [h7, List.drop_eq_getElem_cons hi, List.append_assoc]
    rfl
  · have hb' : b < (cg_cp a15 r m).length := by rw [cg_cp_len]; exact hb
    rw [List.map_append, h9, ← List.take_append_getElem hb', cg_cp_at, ← he, cg_lv_in hi]
    show _ ++ [a1 F[i]] = _
    rw [(h5 _ hx).1]
  · intro x hxm
    rcases List.mem_append.mp hxm with z | z
    · exact h10 x z
    · rw [List.mem_singleton.mp z]; omega
  · rw [cg_take hi, cg_la_app]
    rfl
theorem cg_pass2 {post : Int32 → St1 → Prop} {fl ft : Int32} {a10 a11 a12 a13 a14 a15 a16 a17 a18 : Nat → Int32} {K0 : cg_K} {us0 mu0 r m q0 N : Nat} {F : List Nat} {c1 c2 : Nat → Int32} (hr : r < 3) (hn : F.length ≤ 20) (hm : m ≤ 20) (hs : a13 r = nI F.length) (hc : a14 r = nI m)
    (hN : mu0 + N ≤ 16) (hus : us0 + m ≤ 60 + q0) (nF : F.Nodup) (lF : ∀ x, x ∈ F → x < 60) (hF : ∀ x, x ∈ F → x < us0) (hrow : cg_rw a16 F)
    (hp : ∀ v fu fm a1 a2 a3 a4 a5 a6 a7 a8 a9 A, cg_q K0 us0 mu0 F a15 c1 c2 r m q0 N F.length m 0 0 fu fm a1 a2 a3 a4 a5 a6 a7 a8 A → post v (fu, fm, fl, ft, a1, a2, a3, a4, a5, a6, a7, a8, a9, a10, a11, a12, a13, a14, a15, a16, a17, a18)) :
    ∀ d i l t cnt M fu fm a1 a2 a3 a4 a5 a6 a7 a8 a9 A, i + d = F.length → l ≤ i → cg_pr a18 c1 a15 r m F i t M → cg_q K0 us0 mu0 F a15 c1 c2 r m q0 N l t M.length (cg_ns F.length m l t M) fu fm a1 a2 a3 a4 a5 a6 a7 a8 A → cg_la 60 A = cg_la 60 (F.take l) →
      wX_stretches_11 post (nI r) 1 (d + 2) cnt (nI l) (nI t) (nI i) fu fm fl ft a1 a2 a3 a4 a5 a6 a7 a8 a9 a10 a11 a12 a13 a14 a15 a16 a17 a18 := by
  intro d
  induction d with
  | zero =>
    intro i l t cnt M fu fm a1 a2 a3 a4 a5 a6 a7 a8 a9 A hi hl hM hq hla
    refine cg_st11 hr hn hm hs hc (by omega) hM (fun z => absurd z (by omega)) (fun z => absurd z (by omega)) (fun z hz => ?_)
    have htm := (cg_pr_le M hM).2
    subst z
    subst hz
    refine cg_st76 (by omega) (by omega) (by omega) (by omega) (fun z => br_f (by decide) ?_) (fun z => cg_stEnd hr hn hs ?_)
    · rw [show cg_ns F.length m l t [] = 1 + 0 from if_pos z] at hq
      exact cg_descq hr hq hla hN hl (Nat.le_refl _) hn (by omega) (Nat.le_refl _) hm (by omega) nF lF hs hrow (fun fu' fm' b1 b2 b3 b4 b5 b6 b7 b8 b9 A' hq' => nm_e (cg_st112 (cg_stEnd hr hn hs (hp _ fu' fm' b1 b2 b3 b4 b5 b6 b7 b8 b9 A' hq'))))
    · rw [show cg_ns F.length m l t [] = 0 from if_neg z] at hq
      have e1 : l = F.length := by omega
      have e2 : t = m := by rw [show ([] : List (Nat × Nat)).length = 0 from rfl] at htm; omega
      subst e1
      subst e2
      exact hp _ fu fm a1 a2 a3 a4 a5 a6 a7 a8 a9 A hq
  | succ d ih =>
    intro i l t cnt M fu fm a1 a2 a3 a4 a5 a6 a7 a8 a9 A hi hl hM hq hla
    refine cg_st11 hr hn hm hs hc (by omega) hM (fun z hM' => ih (i + 1) l t cnt M fu fm a1 a2 a3 a4 a5 a6 a7 a8 a9 A (by omega) (by omega) hM' hq hla) (fun z b M' hz => ?_) (fun z => absurd z (by omega))
    subst hz
    obtain ⟨m1, m2, m3, m4, m5, m6, m7, m8⟩ := hM
    have htm := (cg_pr_le M' m8).2
    have el : ((i, b) :: M').length = M'.length + 1 := rfl
    rw [el] at hq
    refine cg_st76 (by omega) (by omega) (by omega) (by omega) (fun z2 => br_f (by decide) ?_) (fun z2 => ?_)
    · rw [show cg_ns F.length m l t ((i, b) :: M') = 1 + cg_ns F.length m (i + 1) (b + 1) M' by show (if l < i ∨ t < b then 1 else 0) + _ = _; rw [if_pos z2]] at hq
      refine cg_descq hr hq hla hN hl (by omega) hn m2 (by omega) hm (by omega) nF lF hs hrow (fun fu' fm' b1 b2 b3 b4 b5 b6 b7 b8 b9 A' hq' => nm_e (cg_st112 ?_))
      have h2 := cg_qpair hq' m3 m4 m5 hF
      exact ih (i + 1) (i + 1) (b + 1) _ M' fu' fm' b1 b2 b3 b4 b5 b6 b7 b8 b9 _ (by omega) (by omega) m8 h2.1 h2.2
    · rw [show cg_ns F.length m l t ((i, b) :: M') = cg_ns F.length m (i + 1) (b + 1) M' by show (if l < i ∨ t < b then 1 else 0) + _ = _; rw [if_neg z2, Nat.zero_add]] at hq
      have e1 : l = i := by omega
      have e2 : t = b := by omega
      subst e1
      subst e2
      have h2 := cg_qpair hq m3 m4 m5 hF
      exact ih (l + 1) (l + 1) (t + 1) _ M' fu fm a1 a2 a3 a4 a5 a6 a7 a8 a9 _ (by omega) (by omega) m8 h2.1 h2.2
/-- the new changes are made -/
theorem cg_c80 {post : Int32 → St1 → Prop} {fu fm fl ft : Int32} {a1 a2 a3 a4 a5 a6 a7 a8 a9 a10 a11 a12 a13 a14 a15 a16 a17 a18 : Nat → Int32} {K : cg_K} {us mu mu0 r : Nat} {Gs : Nat → List Nat} {v : Int32} (hr : r < 3) (ht : cg_tab K us mu fu fm a3 a4 a5 a6 a7 a8)
    (hst : ∀ c, mu0 ≤ c → c < mu → cg_stp K c (Gs c) (Gs (c + 1))) (hle : mu0 ≤ mu) (hR : cg_rm K mu a10 a11 a12 a13 r (Gs mu0)) (h0 : ∀ d, mu0 ≤ d → d < 32 → cg_bt (a10 r) d = false)
    (hp : ∀ b10 b11 b12 b13, cg_rm K mu b10 b11 b12 b13 r (Gs mu) → (∀ q G, q ≠ r → cg_rm K mu a10 a11 a12 a13 q G → cg_rm K mu b10 b11 b12 b13 q G) →
      (∀ d, d < 32 → cg_bt (b10 r) d = (cg_bt (a10 r) d || (decide (mu0 ≤ d) && decide (d < mu)))) → post v (fu, fm, fl, ft, a1, a2, a3, a4, a5, a6, a7, a8, a9, b10, b11, b12, b13, a14, a15, a16, a17, a18)) :
    ∃ n, wX_commit_80 post (nI r) v n (nI mu0) fu fm fl ft a1 a2 a3 a4 a5 a6 a7 a8 a9 a10 a11 a12 a13 a14 a15 a16 a17 a18 := by
  have hfm := ht.2.2.1
  have hm := ht.2.2.2.1
  have main : ∀ n k b10 b11 b12 b13, mu0 ≤ k → k + n = mu → cg_rm K mu b10 b11 b12 b13 r (Gs k) → (∀ q G, q ≠ r → cg_rm K mu a10 a11 a12 a13 q G → cg_rm K mu b10 b11 b12 b13 q G) →
      (∀ d, d < 32 → cg_bt (b10 r) d = (cg_bt (a10 r) d || (decide (mu0 ≤ d) && decide (d < k)))) → wX_commit_80 post (nI r) v (n + 1) (nI k) fu fm fl ft a1 a2 a3 a4 a5 a6 a7 a8 a9 b10 b11 b12 b13 a14 a15 a16 a17 a18 := by
    intro n
    induction n with
    | zero =>
      intro k b10 b11 b12 b13 hk0 hk hR hO hB
      have hk' : k = mu := hk
      subst hk'
      exact pk_le k k (fun _ => hp b10 b11 b12 b13 hR hO hB) (fun z => absurd z (by omega)) (hx := hfm)
    | succ n ih =>
      intro k b10 b11 b12 b13 hk0 hk hR hO hB
      obtain ⟨A, B, e1, e2, e3, e4⟩ := hst k hk0 (by omega)
      rw [e1] at hR
      refine pk_le mu k (fun z => absurd z (by omega)) (fun _ => cg_make hr ht (by omega) hR e3 e4 (by rw [hB k (by omega), h0 k hk0 (by omega), decide_eq_false (show ¬ k < k by omega)]; simp) (fun c10 c11 c12 c13 hR' hO' hB' => nm_r (nI_1 k) ?_)) (hx := hfm)
      rw [← e2] at hR'
      refine ih (k + 1) c10 c11 c12 c13 (by omega) (by omega) hR' (fun q G hq hG => hO' q G hq (hO q G hq hG)) (fun d hd => ?_)
      rw [hB' d hd, hB d hd]
      by_cases e : d = k
      · subst e
        rw [decide_eq_true hk0, decide_eq_true (show d < d + 1 by omega)]
        simp
      · rw [decide_eq_false e, Bool.or_false]
        have : decide (d < k + 1) = decide (d < k) := decide_eq_decide.mpr (by omega)
        rw [this]
  refine ⟨_, main (mu - mu0) mu0 a10 a11 a12 a13 (Nat.le_refl _) (by omega) hR (fun _ _ _ h => h) (fun d hd => ?_)⟩
  by_cases e : mu0 ≤ d
  · rw [decide_eq_false (show ¬ d < mu0 by omega)]
    simp
  · rw [decide_eq_false e]
    simp
theorem cg_commit {post : Int32 → St1 → Prop} {fu fm fl ft : Int32} {a1 a2 a3 a4 a5 a6 a7 a8 a9 a10 a11 a12 a13 a14 a15 a16 a17 a18 : Nat → Int32} {K : cg_K} {us mu r m : Nat} {F : List Nat} (hr : r < 3) (ht : cg_tab K us mu fu fm a3 a4 a5 a6 a7 a8) (hR : cg_rm K mu a10 a11 a12 a13 r F) (hn : F.length ≤ 20) (hm : m ≤ 20) (hc : a14 r = nI m)
    (hp0 : ∀ v fl' ft' b16 b17 b18, v < 0 → post v (fu, fm, fl', ft', a1, a2, a3, a4, a5, a6, a7, a8, a9, a10, a11, a12, a13, a14, a15, b16, b17, b18))
    (hp1 : ∀ N K' us' F' fu' fm' fl' ft' b1 b2 b3 b4 b5 b6 b7 b8 b9 b10 b11 b12 b13 b16 b17 b18, cg_tab K' us' (mu + N) fu' fm' b3 b4 b5 b6 b7 b8 → (∀ c, c < mu → K' c = K c) → (∀ j, j < us → b1 j = a1 j ∧ b2 j = a2 j) →
      cg_rm K' (mu + N) b10 b11 b12 b13 r F' → F'.map b1 = cg_cp a15 r m → (∀ q G, q ≠ r → cg_rm K mu a10 a11 a12 a13 q G → cg_rm K' (mu + N) b10 b11 b12 b13 q G) →
      (∀ d, d < 32 → cg_bt (b10 r) d = (cg_bt (a10 r) d || (decide (mu ≤ d) && decide (d < mu + N)))) →
      post (nI N) (fu', fm', fl', ft', b1, b2, b3, b4, b5, b6, b7, b8, b9, b10, b11, b12, b13, a14, a15, b16, b17, b18)) :
    wpX_commit post (fu, fm, fl, ft, a1, a2, a3, a4, a5, a6, a7, a8, a9, a10, a11, a12, a13, a14, a15, a16, a17, a18) (nI r) := by
  have hfu := ht.1
  have hus := ht.2.1
  have hfm := ht.2.2.1
  have hmu := ht.2.2.2.1
  have h6 := hR.2.1
  unfold wpX_commit
  refine cg_isRoom hr (br_f (by decide) (cg_findPairs hr hn hm h6 hR.2.2.1 hR.2.2.2.1 hc (fun fl' ft' b16 b17 b18 M hrow hg hM hlen => ?_)))
  have hq0 := cg_G_le a1 a15 r m F 0 0
  have hN0 := cg_ns_le F.length m M 0 0
  refine cg_pass1 hr hn hm hR.2.2.1 hc hM ?_
  refine pk_le (mu + cg_ns F.length m 0 0 M) 16 (fun hN => ⟨pk_in r 3 hr, nm_r (e' := nI (m - cg_G a1 a15 r m F 0 0)) ?_ (pk_le (us + (m - cg_G a1 a15 r m F 0 0)) 60 (fun hU => ?_) (fun _ => hp0 _ fl' ft' b16 b17 b18 (by decide)) (hx := by rw [hfu, nI_add]))⟩) (fun _ => hp0 _ fl' ft' b16 b17 b18 (by decide)) (hx := by rw [hfm, nI_add])
  · rw [nI_clamp (by omega), hc, show b17 0 = nI (cg_G a1 a15 r m F 0 0) from hg 0 0 (by omega) (by omega)]
    exact pk_sub hq0.2
  · have lus : ∀ x, x ∈ F → x < us := fun x hx => cg_lt_us ht hR.2.2.2.2.2.2 h6 hx
    have start : cg_q K us mu F a15 a1 a2 r m (cg_G a1 a15 r m F 0 0) (cg_ns F.length m 0 0 M) 0 0 M.length (cg_ns F.length m 0 0 M) fu fm a1 a2 a3 a4 a5 a6 a7 a8 [] :=
      ⟨K, us, mu, fun _ => F, ht, fun _ _ => rfl, Nat.le_refl _, Nat.le_refl _, fun _ _ => ⟨rfl, rfl⟩, rfl, rfl, fun c h1 h2 => absurd h1 (by omega), rfl, fun x hx => absurd hx List.not_mem_nil, by rw [hlen]; omega, rfl⟩
    refine ⟨_, cg_pass2 hr hn hm hR.2.2.1 hc hN (by omega) hR.1 h6 lus hrow ?_ F.length 0 0 0 0 M fu fm a1 a2 a3 a4 a5 a6 a7 a8 a9 [] (by omega) (by omega) hM start rfl⟩
    intro v fu' fm' b1 b2 b3 b4 b5 b6 b7 b8 b9 A hq
    obtain ⟨K', us', mu', Gs, t1, t2, t3, t4, t5, t6, t7, t8, t9, t10, t11, t12⟩ := hq
    have emu : mu' = mu + cg_ns F.length m 0 0 M := t12
    subst emu
    have hRe : cg_rm K' (mu + cg_ns F.length m 0 0 M) a10 a11 a12 a13 r (Gs mu) := by
      rw [t6]
      exact cg_rm_ext hR t2 t3 (by omega)
    have := cg_c80 (post := post) (v := nI (cg_ns F.length m 0 0 M)) (fl := fl') (ft := ft') (a1 := b1) (a2 := b2) (a9 := b9) (a14 := a14) (a15 := a15) (a16 := b16) (a17 := b17) (a18 := b18) hr t1 t8 t3 hRe hR.2.2.2.2.2.1 (fun b10 b11 b12 b13 hR' hO hB => ?_)
    · rw [hfm]
      exact this
    · rw [t7, List.drop_of_length_le (Nat.le_refl _), List.append_nil] at hR'
      refine hp1 _ K' us' A fu' fm' fl' ft' b1 b2 b3 b4 b5 b6 b7 b8 b9 b10 b11 b12 b13 b16 b17 b18 t1 t2 t5 hR' ?_ (fun q G hq hG => hO q G hq (cg_rm_ext hG t2 t3 (by omega))) hB
      rw [t9, List.take_of_length_le (by rw [cg_cp_len]; exact Nat.le_refl _)]
end
section
/-! ===== back ===== -/
theorem cg_m1lt {f : Nat} (h : f ≤ 16) : nI f + (-1) < nI f := by
  cases f with
  | zero => decide
  | succ f => rw [pk_m1]; exact nI_lt (by omega) (by omega)
theorem cg_backL {post : Int32 → St1 → Prop} {fu fm fl ft : Int32} {a1 a2 a3 a4 a5 a6 a7 a8 a9 a10 a11 a12 a13 a14 a15 a16 a17 a18 : Nat → Int32} {K : cg_K} {us mu r f N : Nat} {F F0 : List Nat} {h0 : Nat → Bool} {bef : Int64} (hr : r < 3) (ht : cg_tab K us mu fu fm a3 a4 a5 a6 a7 a8) (hf : f + N = mu) (hR : cg_rm K mu a10 a11 a12 a13 r F) (hn : F.length ≤ 20)
    (hbits : ∀ d, d < 32 → cg_bt (a10 r) d = (h0 d || (decide (f ≤ d) && decide (d < f + N)))) (hh0 : ∀ d, f ≤ d → d < 32 → h0 d = false) (hs0 : cg_sums h0 K mu F0) (nF0 : F0.Nodup) (lF0 : ∀ x, x ∈ F0 → x < 60) (hbef : cg_hash a1 a2 F0 20 = bef)
    (hp : ∀ b10 b11 b12 b13 b16 F', cg_rm K mu b10 b11 b12 b13 r F' → F'.length ≤ 20 → (∀ q G, q ≠ r → cg_rm K mu a10 a11 a12 a13 q G → cg_rm K mu b10 b11 b12 b13 q G) → post 1 (fu, fm, fl, ft, a1, a2, a3, a4, a5, a6, a7, a8, a9, b10, b11, b12, b13, a14, a15, b16, a17, a18)) :
    wpL_back post (fu, fm, fl, ft, a1, a2, a3, a4, a5, a6, a7, a8, a9, a10, a11, a12, a13, a14, a15, a16, a17, a18) (nI r) (nI f) (nI N) bef := by
  have hmu := ht.2.2.2.1
  have stop : ∀ n (x7 : Int32) b10 b11 b12 b13 F', cg_rm K mu b10 b11 b12 b13 r F' → F'.length ≤ 20 → (∀ q G, q ≠ r → cg_rm K mu a10 a11 a12 a13 q G → cg_rm K mu b10 b11 b12 b13 q G) →
      wL_back_10 post (nI r) (nI f) bef (n + 1) 0 x7 fu fm fl ft a1 a2 a3 a4 a5 a6 a7 a8 a9 b10 b11 b12 b13 a14 a15 a16 a17 a18 := by
    intro n x7 b10 b11 b12 b13 F' hR' hl hO
    exact br_c (fun _ => br_t rfl (hp b10 b11 b12 b13 a16 F' hR' hl hO)) (fun _ => br_t rfl (br_t rfl (hp b10 b11 b12 b13 a16 F' hR' hl hO)))
  have main : ∀ k, k ≤ N → ∀ b10 b11 b12 b13 F', cg_rm K mu b10 b11 b12 b13 r F' → F'.length ≤ 20 → (∀ q G, q ≠ r → cg_rm K mu a10 a11 a12 a13 q G → cg_rm K mu b10 b11 b12 b13 q G) →
      (∀ d, d < 32 → cg_bt (b10 r) d = (h0 d || (decide (f ≤ d) && decide (d < f + k)))) → wL_back_10 post (nI r) (nI f) bef (k + 2) 1 (nI (f + k) + (-1)) fu fm fl ft a1 a2 a3 a4 a5 a6 a7 a8 a9 b10 b11 b12 b13 a14 a15 a16 a17 a18 := by
    intro k
    induction k with
    | zero =>
      intro _ b10 b11 b12 b13 F' hR' hl hO hB
      have eF : F' = F0 := cg_same hR'.2.2.2.2.2.2 hs0 (fun c hc => by
        rw [hB c (by omega)]
        by_cases e : f ≤ c
        · rw [decide_eq_false (show ¬ c < f + 0 by omega)]; simp
        · rw [decide_eq_false e]; simp) hR'.1 nF0 hR'.2.1 lF0
      refine br_t (cg_m1lt (by omega)) (br_f (by decide) (cg_look hr hl hR'.2.1 hR'.2.2.1 hR'.2.2.2.1 (fun b16 => br_t (by rw [eF]; exact hbef) (hp b10 b11 b12 b13 b16 F' hR' hl hO))))
    | succ k ih =>
      intro hk b10 b11 b12 b13 F' hR' hl hO hB
      rw [← Nat.add_assoc, pk_m1]
      refine pk_lt (f + k) f (fun z => absurd z (by omega)) (fun _ => br_f (by decide) (cg_uncommit hr (by omega) ht hR' hl (fun c10 c11 c12 c13 F'' hc hR'' hl' hO' hB' => br_f (nI_pos (by omega)) (nm_e ?_)) (fun v hv => br_t hv (nm_e (stop (k + 1) _ b10 b11 b12 b13 F' hR' hl hO)))))
      refine ih (by omega) c10 c11 c12 c13 F'' hR'' hl' (fun q G hq hG => hO' q G hq (hO q G hq hG)) (fun d hd => ?_)
      rw [hB' d hd, hB d hd]
      by_cases e : d = f + k
      · subst e
        rw [hh0 (f + k) (by omega) hd, decide_eq_false (show ¬ f + k < f + k by omega)]
        simp
      · rw [decide_eq_false e]
        have : decide (d < f + (k + 1)) = decide (d < f + k) := decide_eq_decide.mpr (by omega)
        rw [this]
        simp
  refine nm_r (e' := nI (f + N) + (-1)) (by rw [nI_add]; exact Int32.sub_eq_add_neg _ _) ⟨_, main N (Nat.le_refl _) a10 a11 a12 a13 F hR hn (fun _ _ _ h => h) hbits⟩
/-! ===== the law's invariant ===== -/
def cg_inv (fu fm : Int32) (a3 a4 a5 a6 a7 a8 a10 a11 a12 a13 a14 : Nat → Int32) : Prop :=
  ∃ (K : cg_K) (us mu : Nat) (F : Nat → List Nat) (m : Nat → Nat), cg_tab K us mu fu fm a3 a4 a5 a6 a7 a8 ∧ (∀ q, q < 3 → cg_rm K mu a10 a11 a12 a13 q (F q) ∧ (F q).length ≤ 20) ∧ cg_cs a14 m
theorem cg_rooms {K K' : cg_K} {mu mu' r : Nat} {a10 a11 a12 a13 b10 b11 b12 b13 : Nat → Int32} {F : Nat → List Nat} {F' : List Nat} (h : ∀ q, q < 3 → cg_rm K mu a10 a11 a12 a13 q (F q) ∧ (F q).length ≤ 20) (hR : cg_rm K' mu' b10 b11 b12 b13 r F') (hl : F'.length ≤ 20)
    (hO : ∀ q G, q ≠ r → cg_rm K mu a10 a11 a12 a13 q G → cg_rm K' mu' b10 b11 b12 b13 q G) : ∀ q, q < 3 → cg_rm K' mu' b10 b11 b12 b13 q ((fun q => if q = r then F' else F q) q) ∧ ((fun q => if q = r then F' else F q) q).length ≤ 20 := by
  intro q hq
  show cg_rm K' mu' b10 b11 b12 b13 q (if q = r then F' else F q) ∧ (if q = r then F' else F q).length ≤ 20
  by_cases e : q = r
  · subst e
    rw [if_pos rfl]
    exact ⟨hR, hl⟩
  · rw [if_neg e]
    exact ⟨hO q _ e (h q hq).1, (h q hq).2⟩
theorem cg_apart {post : Int32 → Prop} {fu fm fl ft : Int32} {a1 a2 a3 a4 a5 a6 a7 a8 a9 a10 a11 a12 a13 a14 a15 a16 a17 a18 : Nat → Int32} (hI : cg_inv fu fm a3 a4 a5 a6 a7 a8 a10 a11 a12 a13 a14) (hp : post 1) : wpL_apart post (fu, fm, fl, ft, a1, a2, a3, a4, a5, a6, a7, a8, a9, a10, a11, a12, a13, a14, a15, a16, a17, a18) := by
  obtain ⟨K, us, mu, F, m, ht, hR, hc⟩ := hI
  have one : ∀ (post : Int32 → Prop) p q, p < 3 → q < 3 → (∀ v, ¬ v = 2 → post v) → wpX_compare post (fu, fm, fl, ft, a1, a2, a3, a4, a5, a6, a7, a8, a9, a10, a11, a12, a13, a14, a15, a16, a17, a18) (nI p) (nI q) := by
    intro post p q hp hq h
    obtain ⟨p1, p2⟩ := hR p hp
    obtain ⟨q1, q2⟩ := hR q hq
    exact cg_compare hp hq p2 q2 p1.2.1 q1.2.1 p1.2.2.2.1 q1.2.2.2.1 (fun e => cg_same p1.2.2.2.2.2.2 q1.2.2.2.2.2.2 (fun c _ => by rw [e]) p1.1 q1.1 p1.2.1 q1.2.1) h
  unfold wpL_apart
  exact one _ 0 1 (by omega) (by omega) (fun v hv => br_f hv (one _ 1 2 (by omega) (by omega) (fun v2 hv2 => br_f hv2 (one _ 0 2 (by omega) (by omega) (fun v3 hv3 => br_f hv3 hp)))))
theorem cg_map_cp {a1 b15 : Nat → Int32} {r : Nat} {F : List Nat} (h : ∀ (k : Nat) (h : k < F.length), b15 (20 * r + k) = a1 (F[k])) : F.map a1 = cg_cp b15 r F.length := by
  apply List.ext_getElem
  · rw [List.length_map, cg_cp_len]
  · intro k h1 h2
    rw [List.length_map] at h1
    rw [List.getElem_map, cg_cp_at]
    exact (h k h1).symm
/-! ===== the law's loop ===== -/
theorem cg_changes {post : Int32 → Prop} {fu fm fl ft : Int32} {a1 a2 a3 a4 a5 a6 a7 a8 a9 a10 a11 a12 a13 a14 a15 a16 a17 a18 : Nat → Int32} (hp : post fm) : wpX_changes post (fu, fm, fl, ft, a1, a2, a3, a4, a5, a6, a7, a8, a9, a10, a11, a12, a13, a14, a15, a16, a17, a18) := hp
theorem cg_law (L : Nat) (hL : L ≤ 260) (xs : Nat → Int32) (kc ks : Nat) : ∀ d i fu fm fl ft a1 a2 a3 a4 a5 a6 a7 a8 a9 a10 a11 a12 a13 a14 a15 a16 a17 a18, i + d = 120 → cg_inv fu fm a3 a4 a5 a6 a7 a8 a10 a11 a12 a13 a14 →
    wL_law_10 (fun r => r = 1) L xs kc ks (d + 1) (nI i) fu fm fl ft a1 a2 a3 a4 a5 a6 a7 a8 a9 a10 a11 a12 a13 a14 a15 a16 a17 a18 := by
  intro d
  induction d with
  | zero =>
    intro i fu fm fl ft a1 a2 a3 a4 a5 a6 a7 a8 a9 a10 a11 a12 a13 a14 a15 a16 a17 a18 hi _
    exact pk_le L i (fun _ => rfl) (fun _ => pk_le 120 i (fun _ => rfl) (fun z => absurd z (by omega)))
  | succ d ih =>
    intro i fu fm fl ft a1 a2 a3 a4 a5 a6 a7 a8 a9 a10 a11 a12 a13 a14 a15 a16 a17 a18 hi hI
    have nxt : ∀ fu fm fl ft a1 a2 a3 a4 a5 a6 a7 a8 a9 a10 a11 a12 a13 a14 a15 a16 a17 a18, cg_inv fu fm a3 a4 a5 a6 a7 a8 a10 a11 a12 a13 a14 → wL_law_322 (fun r => r = 1) L xs (wL_law_10 (fun r => r = 1) L xs kc ks (d + 1)) (nI i) kc ks fu fm fl ft a1 a2 a3 a4 a5 a6 a7 a8 a9 a10 a11 a12 a13 a14 a15 a16 a17 a18 := by
      intro fu fm fl ft a1 a2 a3 a4 a5 a6 a7 a8 a9 a10 a11 a12 a13 a14 a15 a16 a17 a18 hJ
      unfold wL_law_322
      exact cg_apart hJ (br_f (by decide) (nm_r (nI_1 i) (ih (i + 1) fu fm fl ft a1 a2 a3 a4 a5 a6 a7 a8 a9 a10 a11 a12 a13 a14 a15 a16 a17 a18 (by omega) hJ)))
    have n305 : ∀ fu fm fl ft a1 a2 a3 a4 a5 a6 a7 a8 a9 a10 a11 a12 a13 a14 a15 a16 a17 a18, cg_inv fu fm a3 a4 a5 a6 a7 a8 a10 a11 a12 a13 a14 → wL_law_305 (fun r => r = 1) L xs (wL_law_10 (fun r => r = 1) L xs kc ks (d + 1)) (nI i) kc ks fu fm fl ft a1 a2 a3 a4 a5 a6 a7 a8 a9 a10 a11 a12 a13 a14 a15 a16 a17 a18 := by
      intro fu fm fl ft a1 a2 a3 a4 a5 a6 a7 a8 a9 a10 a11 a12 a13 a14 a15 a16 a17 a18 hJ
      unfold wL_law_305
      exact nxt fu fm fl ft a1 a2 a3 a4 a5 a6 a7 a8 a9 a10 a11 a12 a13 a14 a15 a16 a17 a18 hJ
    have n221 : ∀ fu fm fl ft a1 a2 a3 a4 a5 a6 a7 a8 a9 a10 a11 a12 a13 a14 a15 a16 a17 a18, cg_inv fu fm a3 a4 a5 a6 a7 a8 a10 a11 a12 a13 a14 → wL_law_221 (fun r => r = 1) L xs (wL_law_10 (fun r => r = 1) L xs kc ks (d + 1)) (nI i) kc ks fu fm fl ft a1 a2 a3 a4 a5 a6 a7 a8 a9 a10 a11 a12 a13 a14 a15 a16 a17 a18 := by
      intro fu fm fl ft a1 a2 a3 a4 a5 a6 a7 a8 a9 a10 a11 a12 a13 a14 a15 a16 a17 a18 hJ
      unfold wL_law_221
      exact nxt fu fm fl ft a1 a2 a3 a4 a5 a6 a7 a8 a9 a10 a11 a12 a13 a14 a15 a16 a17 a18 hJ
    obtain ⟨K, us, mu, F, m, ht, hR, hc⟩ := hI
    have hmu := ht.2.2.2.1
    have hfm := ht.2.2.1
    have keep : cg_inv fu fm a3 a4 a5 a6 a7 a8 a10 a11 a12 a13 a14 := ⟨K, us, mu, F, m, ht, hR, hc⟩
    refine pk_le L i (fun _ => rfl) (fun hiL => pk_le 120 i (fun z => absurd z (by omega)) (fun _ => ⟨pk_in i L hiL, nm_e ⟨by decide, ?_⟩⟩))
    generalize xs (nI i).toNatClampNeg = c
    obtain ⟨j, hj, ej⟩ := pk_andE (c >>> ((5 : Int32) &&& 31)) (m := 15) 4 (by decide)
    have hj16 : j < 16 := hj
    refine nm_r (e' := nI (j % 3)) (by rw [ej]; exact pk_rem (d := 3) (by omega) (by omega) (by omega)) ?_
    have hr : j % 3 < 3 := Nat.mod_lt _ (by omega)
    generalize j % 3 = r at hr
    obtain ⟨k, hk, ek⟩ := pk_andE c (m := 31) 5 (by decide)
    have hk32 : k < 32 := hk
    obtain ⟨g, hg, eg⟩ := pk_andE (c >>> ((9 : Int32) &&& 31)) (m := 15) 4 (by decide)
    have hg16 : g < 16 := hg
    obtain ⟨R, hn⟩ := hR r hr
    have h6 := R.2.1
    have hs := R.2.2.1
    have hl := R.2.2.2.1
    have hm := (hc r hr).2
    have hcs := (hc r hr).1
    refine cg_lines hr ?_
    rw [hs]
    refine nm_r (e' := nI k) ek ?_
    refine pk_le 10 k (fun _ => pk_le 14 k (fun _ => pk_le 19 k (fun _ => pk_le 20 k (fun _ => pk_le 29 k (fun _ => ?_) (fun _ => ?_)) (fun _ => ?_)) (fun _ => ?_)) (fun _ => ?_)) (fun _ => ?_)
    -- uncommit
    · rw [eg]
      refine cg_uncommit hr hg16 ht R hn (fun b10 b11 b12 b13 F' _ hR' hl' hO _ => nxt _ _ _ _ _ _ _ _ _ _ _ _ _ _ _ _ _ _ _ _ _ _ ⟨K, us, mu, _, m, ht, cg_rooms hR hR' hl' hO, hc⟩) (fun v _ => nxt _ _ _ _ _ _ _ _ _ _ _ _ _ _ _ _ _ _ _ _ _ _ keep)
    -- pull
    · refine nm_r (e' := nI g) eg ⟨by decide, ?_⟩
      obtain ⟨o, ho, eo⟩ := pk_andE (c >>> ((13 : Int32) &&& 31)) (m := 1) 1 (by decide)
      have ho2 : o < 2 := ho
      refine nm_r (e' := nI ((r + 1 + o) % 3)) (by rw [eo, nI_1, nI_add]; exact pk_rem (d := 3) (by omega) (by omega) (by omega)) ?_
      refine cg_revert hr hn h6 hs hl (fun b15 b16 _ => ?_)
      have hc2 := cg_cs_up hc r (F r).length hn
      refine cg_pull hr (Nat.mod_lt _ (by omega)) hg16 ht R hn (fun v b10 b11 b12 b13 c15 c16 F' hgm hR' hl' hO hB hT => ?_) (fun v b10 b11 b12 b13 c16 hv hR' hO => ?_)
      · have hJ : cg_inv fu fm a3 a4 a5 a6 a7 a8 b10 b11 b12 b13 (upd (upd a14 r (nI (F r).length)) r (nI F'.length)) := ⟨K, us, mu, _, _, ht, cg_rooms hR hR' hl' hO, cg_cs_up hc2 r F'.length hl'⟩
        refine br_c (fun _ => n305 _ _ _ _ _ _ _ _ _ _ _ _ _ _ _ _ _ _ _ _ _ _ hJ) (fun _ => ?_)
        exact cg_pulled hr hmu hgm hfm hl' hl' hR'.2.1 hR'.2.2.1 hR'.2.2.2.1 pk_us (cg_map_cp hT) hB (fun d16 d17 => br_f (by decide) (n305 _ _ _ _ _ _ _ _ _ _ _ _ _ _ _ _ _ _ _ _ _ _ hJ))
      · exact br_t hv (n305 _ _ _ _ _ _ _ _ _ _ _ _ _ _ _ _ _ _ _ _ _ _ ⟨K, us, mu, _, _, ht, cg_rooms hR hR' hn hO, hc2⟩)
    -- revert
    · exact cg_revert hr hn h6 hs hl (fun b15 b16 _ => nxt _ _ _ _ _ _ _ _ _ _ _ _ _ _ _ _ _ _ _ _ _ _ ⟨K, us, mu, F, _, ht, hR, cg_cs_up hc r (F r).length hn⟩)
    -- commit
    · refine cg_look hr hn h6 hs hl (fun b16 => ?_)
      refine cg_changes (cg_commit hr ht R hn hm hcs (fun v fl' ft' c16 c17 c18 hv => br_t hv (br_t (Int32.le_of_lt hv) (n221 _ _ _ _ _ _ _ _ _ _ _ _ _ _ _ _ _ _ _ _ _ _ keep))) ?_)
      intro N K' us' F' fu' fm' fl' ft' b1 b2 b3 b4 b5 b6 b7 b8 b9 b10 b11 b12 b13 c16 c17 c18 ht' hK hold hR' hT hO hB
      have hmu' := ht'.2.2.2.1
      have hlen : F'.length = m r := by
        have := congrArg List.length hT
        rw [List.length_map, cg_cp_len] at this
        exact this
      have hl' : F'.length ≤ 20 := by omega
      have hJ : cg_inv fu' fm' b3 b4 b5 b6 b7 b8 b10 b11 b12 b13 a14 := ⟨K', us', mu + N, _, m, ht', cg_rooms hR hR' hl' hO, hc⟩
      refine br_f (nI_pos (by omega)) (cg_clean hr hl' hm hR'.2.1 hR'.2.2.1 hR'.2.2.2.1 hcs hT (fun d16 d17 => br_f (by decide) ?_))
      refine cg_changes (br_t (by rw [ht'.2.2.1, hfm, nI_add]) ?_)
      refine pk_le N 0 (fun _ => n221 _ _ _ _ _ _ _ _ _ _ _ _ _ _ _ _ _ _ _ _ _ _ hJ) (fun _ => br_c (fun _ => ?_) (fun _ => n221 _ _ _ _ _ _ _ _ _ _ _ _ _ _ _ _ _ _ _ _ _ _ hJ))
      rw [hfm]
      have lus : ∀ x, x ∈ F r → x < us := fun x hx => cg_lt_us ht R.2.2.2.2.2.2 h6 hx
      refine cg_backL (F0 := F r) (h0 := cg_bt (a10 r)) hr ht' rfl hR' hl' hB R.2.2.2.2.2.1 (cg_sums_ext R.2.2.2.2.2.2 hK (by omega) (fun e h1 h2 => R.2.2.2.2.2.1 e h1 (by omega))) R.1 h6 (cg_hash_congr (fun x hx => (hold x (lus x hx)).1) (fun x hx => (hold x (lus x hx)).2) 20) ?_
      intro e10 e11 e12 e13 e16 F'' hR'' hl'' hO''
      exact br_f (by decide) (n221 _ _ _ _ _ _ _ _ _ _ _ _ _ _ _ _ _ _ _ _ _ _ ⟨K', us', mu + N, _, m, ht', cg_rooms (cg_rooms hR hR' hl' hO) hR'' hl'' hO'', hc⟩)
    -- delete
    · have del : ∀ z0 z1, ¬ z0 = 0 → wL_law_125 (fun r => r = 1) L xs (wL_law_10 (fun r => r = 1) L xs kc ks (d + 1)) (nI i) z0 z1 (nI r) kc ks fu fm fl ft a1 a2 a3 a4 a5 a6 a7 a8 a9 a10 a11 a12 a13 a14 a15 a16 a17 a18 := by
        intro z0 z1 hz
        exact ⟨hz, cg_delete hr hc _ (fun v b14 b15 m' h => nxt _ _ _ _ _ _ _ _ _ _ _ _ _ _ _ _ _ _ _ _ _ _ ⟨K, us, mu, F, m', ht, hR, h⟩)⟩
      exact pk_le (F r).length 0 (fun _ => del _ _ (by decide)) (fun z => del _ _ (nI_ne0 z (by omega)))
    -- insert
    · have ins : ∀ z0 z1, ¬ z0 = 0 → wL_law_80 (fun r => r = 1) L xs (wL_law_10 (fun r => r = 1) L xs kc ks (d + 1)) (nI i) c z0 z1 (nI r) kc ks fu fm fl ft a1 a2 a3 a4 a5 a6 a7 a8 a9 a10 a11 a12 a13 a14 a15 a16 a17 a18 := by
        intro z0 z1 hz
        exact ⟨hz, by decide, cg_insert hr hc _ _ (fun v b14 b15 m' h => nxt _ _ _ _ _ _ _ _ _ _ _ _ _ _ _ _ _ _ _ _ _ _ ⟨K, us, mu, F, m', ht, hR, h⟩)⟩
      exact pk_le (F r).length 0 (fun _ => ins _ _ (by decide)) (fun z => ins _ _ (by rw [nI_1]; exact nI_ne0 (by omega) (by omega)))
end
section
/-! ===== the beginning ===== -/
theorem cg_init {post : St1 → Prop} (mc ms kc ks : Nat)
    (hp : ∀ s11 s12 : Nat → Int32, (∀ q, q < 3 → s11 (62 * q + 60) = nI 61 ∧ ∀ x, x < 62 → (s12 (62 * q + x) ≠ 0 ↔ x = 60 ∨ x = 61)) → post (0, 0, 0, 0, fun _ => 0, fun _ => 0, fun _ => 0, fun _ => 0, fun _ => 0, fun _ => 0, fun _ => 0, fun _ => 0, fun _ => 0, fun _ => 0, s11, s12, fun _ => 0, fun _ => 0, fun _ => 0, fun _ => 0, fun _ => 0, fun _ => 0)) :
    ∃ n, wX_init_151 post mc ms kc ks 0 0 0 0 n 0 (fun _ => 0) (fun _ => 0) (fun _ => 0) (fun _ => 0) (fun _ => 0) (fun _ => 0) (fun _ => 0) (fun _ => 0) (fun _ => 0) (fun _ => 0) (fun _ => 0) (fun _ => 0) (fun _ => 0) (fun _ => 0) (fun _ => 0) (fun _ => 0) (fun _ => 0) (fun _ => 0) := by
  refine pk_loop (fun n i s => wX_init_151 post mc ms kc ks 0 0 0 0 n (nI i) (fun _ => 0) (fun _ => 0) (fun _ => 0) (fun _ => 0) (fun _ => 0) (fun _ => 0) (fun _ => 0) (fun _ => 0) (fun _ => 0) (fun _ => 0) s.1 s.2 (fun _ => 0) (fun _ => 0) (fun _ => 0) (fun _ => 0) (fun _ => 0) (fun _ => 0)) (fun i s => (∀ q, q < i → s.1 (62 * q + 60) = nI 61 ∧ ∀ x, x < 62 → (s.2 (62 * q + x) ≠ 0 ↔ x = 60 ∨ x = 61)) ∧ ∀ q, i ≤ q → ∀ x, x < 62 → s.2 (62 * q + x) = 0) 3 0 ((fun _ => 0), (fun _ => 0)) (by omega) ⟨fun q hq => absurd hq (by omega), fun _ _ _ _ => rfl⟩ ?_ ?_
  · intro n s h
    exact pk_le 3 3 (fun _ => hp s.1 s.2 h.1) (fun z => absurd z (by omega))
  · intro n i s hi h hw
    have i60 : vp_in ((62 : Int32) * nI i + 60) 186 := cg_62i (y := 60) hi (by omega)
    have i61 : vp_in ((62 : Int32) * nI i + 61) 186 := cg_62i (y := 61) hi (by omega)
    have c60 : ((62 : Int32) * nI i + 60).toNatClampNeg = 62 * i + 60 := cg_62c (y := 60) hi (by omega)
    have c61 : ((62 : Int32) * nI i + 61).toNatClampNeg = 62 * i + 61 := cg_62c (y := 61) hi (by omega)
    refine pk_le 3 i (fun z => absurd z (by omega)) (fun _ => ⟨i60, nm_r (e' := upd s.1 (62 * i + 60) (nI 61)) (by rw [c60]; rfl) ⟨i60, nm_r (e' := upd s.2 (62 * i + 60) 1) (by rw [c60]) ⟨i61, nm_r (e' := upd (upd s.2 (62 * i + 60) 1) (62 * i + 61) 1) (by rw [c61]) (nm_r (nI_1 i) (hw (_, _) ⟨?_, ?_⟩))⟩⟩⟩)
    · intro q hq
      show upd s.1 (62 * i + 60) (nI 61) (62 * q + 60) = nI 61 ∧ ∀ x, x < 62 → (upd (upd s.2 (62 * i + 60) 1) (62 * i + 61) 1 (62 * q + x) ≠ 0 ↔ x = 60 ∨ x = 61)
      by_cases e : q = i
      · subst e
        refine ⟨pk_us, fun x hx => ?_⟩
        by_cases e1 : x = 61
        · subst e1
          rw [pk_us]
          exact ⟨fun _ => Or.inr rfl, fun _ => by decide⟩
        · rw [pk_un (by omega)]
          by_cases e0 : x = 60
          · subst e0
            rw [pk_us]
            exact ⟨fun _ => Or.inl rfl, fun _ => by decide⟩
          · rw [pk_un (by omega), h.2 q (Nat.le_refl _) x hx]
            exact ⟨fun z => absurd rfl z, fun z => by omega⟩
      · have hq' : q < i := by omega
        refine ⟨by rw [pk_un (by omega)]; exact (h.1 q hq').1, fun x hx => ?_⟩
        rw [pk_un (by omega), pk_un (by omega)]
        exact (h.1 q hq').2 x hx
    · intro q hq x hx
      show upd (upd s.2 (62 * i + 60) 1) (62 * i + 61) 1 (62 * q + x) = 0
      rw [pk_un (by omega), pk_un (by omega)]
      exact h.2 q (by omega) x hx
theorem cg_inv0 {s11 s12 : Nat → Int32} (h : ∀ q, q < 3 → s11 (62 * q + 60) = nI 61 ∧ ∀ x, x < 62 → (s12 (62 * q + x) ≠ 0 ↔ x = 60 ∨ x = 61)) :
    cg_inv 0 0 (fun _ => 0) (fun _ => 0) (fun _ => 0) (fun _ => 0) (fun _ => 0) (fun _ => 0) (fun _ => 0) s11 s12 (fun _ => 0) (fun _ => 0) := by
  refine ⟨fun _ => (0, 0, [], []), 0, 0, fun _ => [], fun _ => 0, ⟨rfl, by omega, rfl, by omega, fun c hc => absurd hc (by omega), fun c d hc => absurd hc (by omega)⟩, fun q hq => ⟨⟨List.nodup_nil, fun x hx => absurd hx List.not_mem_nil, rfl, ⟨(h q hq).1, trivial⟩, fun x hx => ?_, fun c _ _ => cg_b_0 c, fun x _ => rfl, fun u v => (Int.add_zero _).symm⟩, by simp⟩, fun r hr => ⟨rfl, Nat.zero_le _⟩⟩
  rw [(h q hq).2 x hx]
  simp
theorem i_vc (xs : Nat → Int32) (L : Nat) (hL : L ≤ 260) : wpL_law (fun r => r = 1) L xs := by
  refine ⟨18, 1458, by omega, by omega, ?_⟩
  refine ⟨by omega, by omega, by omega, by omega, by omega, by omega, by omega, by omega, by omega, by omega, by omega, by omega, by omega, by omega, by omega, by omega, by omega, by omega, by omega, by omega, by omega, by omega, by omega, by omega, by omega, by omega, by omega, by omega, by omega, by omega, by omega, by omega, by omega, by omega, by omega, by omega, ?_⟩
  exact cg_init _ _ _ _ (fun s11 s12 h => ⟨_, cg_law L hL xs _ _ 120 0 0 0 0 0 (fun _ => 0) (fun _ => 0) (fun _ => 0) (fun _ => 0) (fun _ => 0) (fun _ => 0) (fun _ => 0) (fun _ => 0) (fun _ => 0) (fun _ => 0) s11 s12 (fun _ => 0) (fun _ => 0) (fun _ => 0) (fun _ => 0) (fun _ => 0) (fun _ => 0) (by omega) (cg_inv0 h)⟩)
end
