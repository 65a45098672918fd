section
/-! names, words: printed by wip/D-90558w/gen.py -/
def R_SD : String := "SplitDrill"
def R_law : String := "SplitDrillLaw"
def R_SR : String := "java/util/SplittableRandom"
def R_PX : String := "java/util/SplittableRandom$AbstractSplittableGeneratorProxy"
def R_SG : String := "jdk/internal/util/random/RandomSupport$AbstractSpliteratorGenerato\x72"
def R_SP : String := "jdk/internal/util/random/RandomSupport$AbstractSplittableGenerato\x72"
def R_LG : String := "java/lang/Long"
def R_OB : String := "java/lang/Object"
def R_NU : String := "java/lang/Numbe\x72"
def F_SD : u_T := fun k => match k with
  | _ => ("SplitDrill", "\x72", "[Ljava/util/SplittableRandom;", true)
def t_SD : Nat → FieldType := fun k => match k with
  | _ => .array (.object "java/util/SplittableRandom")
def F_SR : u_T := fun k => match k with
  | 0 => ("java/util/SplittableRandom", "seed", "J", false)
  | 1 => ("java/util/SplittableRandom", "gamma", "J", true)
  | _ => ("java/util/SplittableRandom", "proxy", "Ljava/util/SplittableRandom$AbstractSplittableGeneratorProxy;", false)
def t_SR : Nat → FieldType := fun k => match k with
  | 0 => .long
  | 1 => .long
  | _ => .object "java/util/SplittableRandom$AbstractSplittableGeneratorProxy"
def F_PX : u_T := fun k => match k with
  | _ => ("java/util/SplittableRandom$AbstractSplittableGeneratorProxy", "this$0", "Ljava/util/SplittableRandom;", true)
def t_PX : Nat → FieldType := fun k => match k with
  | _ => .object "java/util/SplittableRandom"
abbrev b_SD_init : ByteArray := prog_1_method_1_code
def y_SD_init : MethodName := ⟨"SplitDrill", "<init>", "()V"⟩
abbrev b_SD_seed : ByteArray := prog_1_method_2_code
def y_SD_seed : MethodName := ⟨"SplitDrill", "seed", "(IJ)V"⟩
abbrev b_SD_nextInt : ByteArray := prog_1_method_3_code
def y_SD_nextInt : MethodName := ⟨"SplitDrill", "nextInt", "(I)I"⟩
abbrev b_SD_nextLong : ByteArray := prog_1_method_4_code
def y_SD_nextLong : MethodName := ⟨"SplitDrill", "nextLong", "(I)J"⟩
abbrev b_SD_split : ByteArray := prog_1_method_5_code
def y_SD_split : MethodName := ⟨"SplitDrill", "split", "(II)V"⟩
abbrev b_LW_mix64 : ByteArray := method_2_code
def y_LW_mix64 : MethodName := ⟨"SplitDrillLaw", "mix64", "(J)J"⟩
abbrev b_LW_mix32 : ByteArray := method_3_code
def y_LW_mix32 : MethodName := ⟨"SplitDrillLaw", "mix32", "(J)I"⟩
abbrev b_LW_gamma : ByteArray := method_4_code
def y_LW_gamma : MethodName := ⟨"SplitDrillLaw", "gamma", "(J)J"⟩
abbrev b_LG_bit : ByteArray := prog_3_method_50_code
def y_LG_bit : MethodName := ⟨"java/lang/Long", "bitCount", "(J)I"⟩
abbrev b_SR_initJ : ByteArray := prog_5_method_6_code
def y_SR_initJ : MethodName := ⟨"java/util/SplittableRandom", "<init>", "(J)V"⟩
abbrev b_SR_initJJ : ByteArray := prog_5_method_1_code
def y_SR_initJJ : MethodName := ⟨"java/util/SplittableRandom", "<init>", "(JJ)V"⟩
abbrev b_SR_mix32 : ByteArray := prog_5_method_3_code
def y_SR_mix32 : MethodName := ⟨"java/util/SplittableRandom", "mix32", "(J)I"⟩
abbrev b_SR_mix64 : ByteArray := prog_5_method_2_code
def y_SR_mix64 : MethodName := ⟨"java/util/SplittableRandom", "mix64", "(J)J"⟩
abbrev b_SR_mixG : ByteArray := prog_5_method_4_code
def y_SR_mixG : MethodName := ⟨"java/util/SplittableRandom", "mixGamma", "(J)J"⟩
abbrev b_SR_nextInt : ByteArray := prog_5_method_10_code
def y_SR_nextInt : MethodName := ⟨"java/util/SplittableRandom", "nextInt", "()I"⟩
abbrev b_SR_nextLong : ByteArray := prog_5_method_11_code
def y_SR_nextLong : MethodName := ⟨"java/util/SplittableRandom", "nextLong", "()J"⟩
abbrev b_SR_next : ByteArray := prog_5_method_5_code
def y_SR_next : MethodName := ⟨"java/util/SplittableRandom", "nextSeed", "()J"⟩
abbrev b_SR_split : ByteArray := prog_5_method_8_code
def y_SR_split : MethodName := ⟨"java/util/SplittableRandom", "split", "()Ljava/util/SplittableRandom;"⟩
abbrev b_PX_init : ByteArray := prog_6_method_1_code
def y_PX_init : MethodName := ⟨"java/util/SplittableRandom$AbstractSplittableGeneratorProxy", "<init>", "(Ljava/util/SplittableRandom;)V"⟩
abbrev b_SG_init : ByteArray := prog_7_method_1_code
def y_SG_init : MethodName := ⟨"jdk/internal/util/random/RandomSupport$AbstractSpliteratorGenerato\x72", "<init>", "()V"⟩
abbrev b_SP_init : ByteArray := prog_8_method_1_code
def y_SP_init : MethodName := ⟨"jdk/internal/util/random/RandomSupport$AbstractSplittableGenerato\x72", "<init>", "()V"⟩
/-- the words that are kept by every step -/
def W_all : List Cond := [.initialized R_law,
  .initialized R_SD,
  .initialized R_SR,
  .initialized R_SG,
  .initialized R_SP,
  .initialized R_PX,
  .initialized R_NU,
  .initialized R_LG,
  .classLink R_law 21 R_SD,
  .instantiable R_SD 1,
  .methodLink R_law 23 y_SD_init,
  .instanceMethod y_SD_init,
  .code y_SD_init b_SD_init 2 none,
  .methodLink R_SD 1 objectInit,
  .instanceMethod objectInit,
  .code objectInit ⟨#[0xb1]⟩ 1 none,
  .classLink R_SD 7 R_SR,
  .instantiable R_SR 3,
  .methodLink R_SD 15 y_SR_initJ,
  .instanceMethod y_SR_initJ,
  .code y_SR_initJ b_SR_initJ 3 none,
  .constantLong R_SR 45 (-7046029254386353131),
  .methodLink R_SR 47 y_SR_initJJ,
  .instanceMethod y_SR_initJJ,
  .code y_SR_initJJ b_SR_initJJ 5 none,
  .methodLink R_SR 1 objectInit,
  .classLink R_SR 16 R_PX,
  .instantiable R_PX 1,
  .instanceMethod y_PX_init,
  .code y_PX_init b_PX_init 2 none,
  .methodLink R_PX 7 y_SP_init,
  .instanceMethod y_SP_init,
  .code y_SP_init b_SP_init 1 none,
  .methodLink R_SP 1 y_SG_init,
  .instanceMethod y_SG_init,
  .code y_SG_init b_SG_init 1 none,
  .methodLink R_SG 1 objectInit,
  .fieldLink R_PX 1 R_PX "this$0" "Ljava/util/SplittableRandom;",
  .laysFinal R_PX R_PX "this$0" "Ljava/util/SplittableRandom;",
  .fieldLink R_SR 7 R_SR "seed" "J",
  .fieldLink R_SR 13 R_SR "gamma" "J",
  .fieldLink R_SR 21 R_SR "proxy" "Ljava/util/SplittableRandom$AbstractSplittableGeneratorProxy;",
  .lays R_SR R_SR "seed" "J",
  .laysFinal R_SR R_SR "gamma" "J",
  .lays R_SR R_SR "proxy" "Ljava/util/SplittableRandom$AbstractSplittableGeneratorProxy;",
  .fieldLink R_SD 9 R_SD "\x72" "[Ljava/util/SplittableRandom;",
  .laysFinal R_SD R_SD "\x72" "[Ljava/util/SplittableRandom;",
  .methodLink R_law 30 y_SD_seed,
  .instanceMethod y_SD_seed,
  .selects R_SD y_SD_seed y_SD_seed,
  .code y_SD_seed b_SD_seed 4 none,
  .methodLink R_law 47 y_SD_nextInt,
  .instanceMethod y_SD_nextInt,
  .selects R_SD y_SD_nextInt y_SD_nextInt,
  .code y_SD_nextInt b_SD_nextInt 2 (some .int),
  .methodLink R_SD 18 y_SR_nextInt,
  .instanceMethod y_SR_nextInt,
  .selects R_SR y_SR_nextInt y_SR_nextInt,
  .code y_SR_nextInt b_SR_nextInt 1 (some .int),
  .methodLink R_SR 72 y_SR_next,
  .instanceMethod y_SR_next,
  .code y_SR_next b_SR_next 1 (some .long),
  .methodLink R_SR 78 y_SR_mix32,
  .static y_SR_mix32,
  .code y_SR_mix32 b_SR_mix32 2 (some .int),
  .constantLong R_SR 29 (7109453100751455733),
  .constantLong R_SR 31 (-3808689974395783757),
  .methodLink R_law 55 y_SD_nextLong,
  .instanceMethod y_SD_nextLong,
  .selects R_SD y_SD_nextLong y_SD_nextLong,
  .code y_SD_nextLong b_SD_nextLong 2 (some .long),
  .methodLink R_SD 22 y_SR_nextLong,
  .instanceMethod y_SR_nextLong,
  .selects R_SR y_SR_nextLong y_SR_nextLong,
  .code y_SR_nextLong b_SR_nextLong 1 (some .long),
  .methodLink R_SR 62 y_SR_mix64,
  .static y_SR_mix64,
  .code y_SR_mix64 b_SR_mix64 2 (some .long),
  .constantLong R_SR 25 (-4658895280553007687),
  .constantLong R_SR 27 (-7723592293110705685),
  .methodLink R_law 34 y_SD_split,
  .instanceMethod y_SD_split,
  .selects R_SD y_SD_split y_SD_split,
  .code y_SD_split b_SD_split 3 none,
  .methodLink R_SD 26 y_SR_split,
  .instanceMethod y_SR_split,
  .selects R_SR y_SR_split y_SR_split,
  .code y_SR_split b_SR_split 1 (some (.object R_SR)),
  .classLink R_SR 8 R_SR,
  .methodLink R_SR 68 y_SR_nextLong,
  .methodLink R_SR 65 y_SR_mixG,
  .static y_SR_mixG,
  .code y_SR_mixG b_SR_mixG 3 (some .long),
  .constantLong R_SR 33 (-49064778989728563),
  .constantLong R_SR 35 (-4265267296055464877),
  .methodLink R_SR 37 y_LG_bit,
  .static y_LG_bit,
  .code y_LG_bit b_LG_bit 2 (some .int),
  .constantLong R_LG 314 (6148914691236517205),
  .constantLong R_LG 316 (3689348814741910323),
  .constantLong R_LG 318 (1085102592571150095),
  .constantLong R_SR 43 (-6148914691236517206),
  .methodLink R_law 38 y_LW_mix64,
  .static y_LW_mix64,
  .code y_LW_mix64 b_LW_mix64 2 (some .long),
  .constantLong R_law 7 (-4658895280553007687),
  .constantLong R_law 9 (-7723592293110705685),
  .methodLink R_law 51 y_LW_mix32,
  .static y_LW_mix32,
  .code y_LW_mix32 b_LW_mix32 2 (some .int),
  .constantLong R_law 11 (7109453100751455733),
  .constantLong R_law 13 (-3808689974395783757),
  .methodLink R_law 44 y_LW_gamma,
  .static y_LW_gamma,
  .code y_LW_gamma b_LW_gamma 4 (some .long),
  .constantLong R_law 15 (-49064778989728563),
  .constantLong R_law 17 (-4265267296055464877),
  .constantLong R_law 19 (-6148914691236517206),
  .constantLong R_law 24 (2),
  .constantLong R_law 26 (3),
  .constantLong R_law 28 (-7046029254386353131),
  .arrayClass .long,
  .selects R_SR y_SR_next y_SR_next]
abbrev c_SD_init : Cond := .code y_SD_init b_SD_init 2 none
abbrev w_SD_init : List Cond := c_SD_init :: W_all
abbrev c_SD_seed : Cond := .code y_SD_seed b_SD_seed 4 none
abbrev w_SD_seed : List Cond := c_SD_seed :: W_all
abbrev c_SD_nextInt : Cond := .code y_SD_nextInt b_SD_nextInt 2 (some .int)
abbrev w_SD_nextInt : List Cond := c_SD_nextInt :: W_all
abbrev c_SD_nextLong : Cond := .code y_SD_nextLong b_SD_nextLong 2 (some .long)
abbrev w_SD_nextLong : List Cond := c_SD_nextLong :: W_all
abbrev c_SD_split : Cond := .code y_SD_split b_SD_split 3 none
abbrev w_SD_split : List Cond := c_SD_split :: W_all
abbrev c_LW_mix64 : Cond := .code y_LW_mix64 b_LW_mix64 2 (some .long)
abbrev w_LW_mix64 : List Cond := c_LW_mix64 :: W_all
abbrev c_LW_mix32 : Cond := .code y_LW_mix32 b_LW_mix32 2 (some .int)
abbrev w_LW_mix32 : List Cond := c_LW_mix32 :: W_all
abbrev c_LW_gamma : Cond := .code y_LW_gamma b_LW_gamma 4 (some .long)
abbrev w_LW_gamma : List Cond := c_LW_gamma :: W_all
abbrev c_LG_bit : Cond := .code y_LG_bit b_LG_bit 2 (some .int)
abbrev w_LG_bit : List Cond := c_LG_bit :: W_all
abbrev c_SR_initJ : Cond := .code y_SR_initJ b_SR_initJ 3 none
abbrev w_SR_initJ : List Cond := c_SR_initJ :: W_all
abbrev c_SR_initJJ : Cond := .code y_SR_initJJ b_SR_initJJ 5 none
abbrev w_SR_initJJ : List Cond := c_SR_initJJ :: W_all
abbrev c_SR_mix32 : Cond := .code y_SR_mix32 b_SR_mix32 2 (some .int)
abbrev w_SR_mix32 : List Cond := c_SR_mix32 :: W_all
abbrev c_SR_mix64 : Cond := .code y_SR_mix64 b_SR_mix64 2 (some .long)
abbrev w_SR_mix64 : List Cond := c_SR_mix64 :: W_all
abbrev c_SR_mixG : Cond := .code y_SR_mixG b_SR_mixG 3 (some .long)
abbrev w_SR_mixG : List Cond := c_SR_mixG :: W_all
abbrev c_SR_nextInt : Cond := .code y_SR_nextInt b_SR_nextInt 1 (some .int)
abbrev w_SR_nextInt : List Cond := c_SR_nextInt :: W_all
abbrev c_SR_nextLong : Cond := .code y_SR_nextLong b_SR_nextLong 1 (some .long)
abbrev w_SR_nextLong : List Cond := c_SR_nextLong :: W_all
abbrev c_SR_next : Cond := .code y_SR_next b_SR_next 1 (some .long)
abbrev w_SR_next : List Cond := c_SR_next :: W_all
abbrev c_SR_split : Cond := .code y_SR_split b_SR_split 1 (some (.object R_SR))
abbrev w_SR_split : List Cond := c_SR_split :: W_all
abbrev c_PX_init : Cond := .code y_PX_init b_PX_init 2 none
abbrev w_PX_init : List Cond := c_PX_init :: W_all
abbrev c_SG_init : Cond := .code y_SG_init b_SG_init 1 none
abbrev w_SG_init : List Cond := c_SG_init :: W_all
abbrev c_SP_init : Cond := .code y_SP_init b_SP_init 1 none
abbrev w_SP_init : List Cond := c_SP_init :: W_all
def lw_privs : List (MethodName × Nat) := [(y_SR_next, 3)]
def lw_tbl : List Cond := k2_sels lw_privs ++ tables_1
abbrev k_nest : Cond := .methodLinkNest R_SR 18 y_PX_init R_SR
theorem lw_privs_ok : ∀ q ∈ lw_privs, (q.1.cls ≠ "java/lang/invoke/MethodHandle" ∧ q.1.cls ≠ "java/lang/invoke/VarHandle") ∧ Cond.instantiable q.1.cls q.2 ∈ tables_1 ∧ Cond.privateMethod q.1 ∈ tables_1 ∧ Cond.instanceMethod q.1 ∈ tables_1 := by decide +kernel
theorem wa_tbl : GoodIn lw_tbl W_all := goodIn_p _ [13, 16, 22, 26, 32, 35, 38, 61, 65, 69, 73, 76, 82, 86, 89, 95, 99, 104, 109, 116, 121, 126] rfl (by decide +kernel)
theorem wa_nest : k_nest ∈ tables_1 := List.mem_of_getElem? (i := 29) rfl
theorem wa_over : Cond.arrayOver (.object R_SR) ∈ tables_1 := List.mem_of_getElem? (i := 17) rfl
theorem wm (k : Nat) {w : Cond} (h : W_all[k]? = some w) : w ∈ W_all := List.mem_of_getElem? h
theorem wa_good : ∀ w ∈ W_all, ((w.onTables && w.keeps) = true ∨ ∃ ty, w = .arrayClass ty) := by
  have h : W_all.all goodWord = true := by decide +kernel
  exact fun w hw => good_of_word (List.all_eq_true.mp h w hw)
theorem gaI {cz : Cond} (hz : cz ∈ W_all) : GoodIn W_all (cz :: W_all) := fun w hw => by
  rcases List.mem_cons.mp hw with rfl | hw
  · exact ⟨hz, wa_good _ hz⟩
  · exact ⟨hw, wa_good _ hw⟩
theorem gaP {pre : List Cond} {cz : Cond} (hp : ∀ w ∈ pre, w ∈ W_all) (hz : cz ∈ W_all) : GoodIn W_all (pre ++ cz :: W_all) := fun w hw => by
  rcases List.mem_append.mp hw with h | h
  · exact ⟨hp w h, wa_good _ (hp w h)⟩
  · exact gaI hz w h
theorem gaV {own C : String} {idx : Nat} {y : MethodName} {cz : Cond} (h1 : Cond.methodLink own idx y ∈ W_all) (h2 : Cond.instanceMethod y ∈ W_all) (h3 : Cond.selects C y y ∈ W_all) (h4 : Cond.initialized C ∈ W_all) (hz : cz ∈ W_all) : GoodIn W_all (wsV own idx C y (cz :: W_all)) := by
  unfold wsV
  refine gaP (fun w hw => ?_) hz
  simp only [List.mem_cons, List.not_mem_nil, or_false] at hw
  rcases hw with rfl | rfl | rfl | rfl <;> assumption
theorem gaS {own : String} {idx : Nat} {y : MethodName} {cz : Cond} (h1 : Cond.methodLink own idx y ∈ W_all) (h2 : Cond.static y ∈ W_all) (h3 : Cond.initialized y.cls ∈ W_all) (hz : cz ∈ W_all) : GoodIn W_all (va_wsS own idx y (cz :: W_all)) := by
  unfold va_wsS
  refine gaP (fun w hw => ?_) hz
  simp only [List.mem_cons, List.not_mem_nil, or_false] at hw
  rcases hw with rfl | rfl | rfl <;> assumption
abbrev kcls : List vw_C := [(R_SD, F_SD, 1), (R_SR, F_SR, 3), (R_PX, F_PX, 1)]
theorem in_SD : ∀ w ∈ u_ws R_SD F_SD 1, w ∈ W_all := by decide +kernel
theorem in_SR : ∀ w ∈ u_ws R_SR F_SR 3, w ∈ W_all := by decide +kernel
theorem in_PX : ∀ w ∈ u_ws R_PX F_PX 1, w ∈ W_all := by decide +kernel
theorem n_SD : ∀ a, a < 1 → ∀ b, b < 1 → a ≠ b → (F_SD a).2.1 ≠ (F_SD b).2.1 := by decide +kernel
theorem n_SR : ∀ a, a < 3 → ∀ b, b < 3 → a ≠ b → (F_SR a).2.1 ≠ (F_SR b).2.1 := by decide +kernel
theorem n_PX : ∀ a, a < 1 → ∀ b, b < 1 → a ≠ b → (F_PX a).2.1 ≠ (F_PX b).2.1 := by decide +kernel
theorem t_SD_ok : ∀ k, k < 1 → parseFieldDescriptor (F_SD k).2.2.1 = some (t_SD k) := by decide +kernel
theorem t_SR_ok : ∀ k, k < 3 → parseFieldDescriptor (F_SR k).2.2.1 = some (t_SR k) := by decide +kernel
theorem t_PX_ok : ∀ k, k < 1 → parseFieldDescriptor (F_PX k).2.2.1 = some (t_PX k) := by decide +kernel
end
section
theorem d_SD_init_0 : decode b_SD_init 0 = .ok (.aload_n 0, 1) := by decide +kernel
theorem d_SD_init_1 : decode b_SD_init 1 = .ok (.invokespecial 1, 3) := by decide +kernel
theorem d_SD_init_4 : decode b_SD_init 4 = .ok (.aload_n 0, 1) := by decide +kernel
theorem d_SD_init_5 : decode b_SD_init 5 = .ok (.iconst 4, 1) := by decide +kernel
theorem d_SD_init_6 : decode b_SD_init 6 = .ok (.anewarray 7, 3) := by decide +kernel
theorem d_SD_init_9 : decode b_SD_init 9 = .ok (.putfield 9, 3) := by decide +kernel
theorem d_SD_init_12 : decode b_SD_init 12 = .ok (.iconst 0, 1) := by decide +kernel
theorem d_SD_init_13 : decode b_SD_init 13 = .ok (.istore_n 1, 1) := by decide +kernel
theorem d_SD_init_14 : decode b_SD_init 14 = .ok (.iload_n 1, 1) := by decide +kernel
theorem d_SD_init_15 : decode b_SD_init 15 = .ok (.iconst 4, 1) := by decide +kernel
theorem d_SD_init_16 : decode b_SD_init 16 = .ok (.if_icmp .ge 24, 3) := by decide +kernel
theorem d_SD_init_19 : decode b_SD_init 19 = .ok (.aload_n 0, 1) := by decide +kernel
theorem d_SD_init_20 : decode b_SD_init 20 = .ok (.getfield 9, 3) := by decide +kernel
theorem d_SD_init_23 : decode b_SD_init 23 = .ok (.iload_n 1, 1) := by decide +kernel
theorem d_SD_init_24 : decode b_SD_init 24 = .ok (.new 7, 3) := by decide +kernel
theorem d_SD_init_27 : decode b_SD_init 27 = .ok (.dup, 1) := by decide +kernel
theorem d_SD_init_28 : decode b_SD_init 28 = .ok (.iload_n 1, 1) := by decide +kernel
theorem d_SD_init_29 : decode b_SD_init 29 = .ok (.i2l, 1) := by decide +kernel
theorem d_SD_init_30 : decode b_SD_init 30 = .ok (.invokespecial 15, 3) := by decide +kernel
theorem d_SD_init_33 : decode b_SD_init 33 = .ok (.aastore, 1) := by decide +kernel
theorem d_SD_init_34 : decode b_SD_init 34 = .ok (.iinc 1 1, 3) := by decide +kernel
theorem d_SD_init_37 : decode b_SD_init 37 = .ok (.goto (-23), 3) := by decide +kernel
theorem d_SD_init_40 : decode b_SD_init 40 = .ok (.return_, 1) := by decide +kernel
theorem d_SD_seed_0 : decode b_SD_seed 0 = .ok (.aload_n 0, 1) := by decide +kernel
theorem d_SD_seed_1 : decode b_SD_seed 1 = .ok (.getfield 9, 3) := by decide +kernel
theorem d_SD_seed_4 : decode b_SD_seed 4 = .ok (.iload_n 1, 1) := by decide +kernel
theorem d_SD_seed_5 : decode b_SD_seed 5 = .ok (.new 7, 3) := by decide +kernel
theorem d_SD_seed_8 : decode b_SD_seed 8 = .ok (.dup, 1) := by decide +kernel
theorem d_SD_seed_9 : decode b_SD_seed 9 = .ok (.lload_n 2, 1) := by decide +kernel
theorem d_SD_seed_10 : decode b_SD_seed 10 = .ok (.invokespecial 15, 3) := by decide +kernel
theorem d_SD_seed_13 : decode b_SD_seed 13 = .ok (.aastore, 1) := by decide +kernel
theorem d_SD_seed_14 : decode b_SD_seed 14 = .ok (.return_, 1) := by decide +kernel
theorem d_SD_nextInt_0 : decode b_SD_nextInt 0 = .ok (.aload_n 0, 1) := by decide +kernel
theorem d_SD_nextInt_1 : decode b_SD_nextInt 1 = .ok (.getfield 9, 3) := by decide +kernel
theorem d_SD_nextInt_4 : decode b_SD_nextInt 4 = .ok (.iload_n 1, 1) := by decide +kernel
theorem d_SD_nextInt_5 : decode b_SD_nextInt 5 = .ok (.aaload, 1) := by decide +kernel
theorem d_SD_nextInt_6 : decode b_SD_nextInt 6 = .ok (.invokevirtual 18, 3) := by decide +kernel
theorem d_SD_nextInt_9 : decode b_SD_nextInt 9 = .ok (.ireturn, 1) := by decide +kernel
theorem d_SD_nextLong_0 : decode b_SD_nextLong 0 = .ok (.aload_n 0, 1) := by decide +kernel
theorem d_SD_nextLong_1 : decode b_SD_nextLong 1 = .ok (.getfield 9, 3) := by decide +kernel
theorem d_SD_nextLong_4 : decode b_SD_nextLong 4 = .ok (.iload_n 1, 1) := by decide +kernel
theorem d_SD_nextLong_5 : decode b_SD_nextLong 5 = .ok (.aaload, 1) := by decide +kernel
theorem d_SD_nextLong_6 : decode b_SD_nextLong 6 = .ok (.invokevirtual 22, 3) := by decide +kernel
theorem d_SD_nextLong_9 : decode b_SD_nextLong 9 = .ok (.lreturn, 1) := by decide +kernel
theorem d_SD_split_0 : decode b_SD_split 0 = .ok (.aload_n 0, 1) := by decide +kernel
theorem d_SD_split_1 : decode b_SD_split 1 = .ok (.getfield 9, 3) := by decide +kernel
theorem d_SD_split_4 : decode b_SD_split 4 = .ok (.iload_n 1, 1) := by decide +kernel
theorem d_SD_split_5 : decode b_SD_split 5 = .ok (.aload_n 0, 1) := by decide +kernel
theorem d_SD_split_6 : decode b_SD_split 6 = .ok (.getfield 9, 3) := by decide +kernel
theorem d_SD_split_9 : decode b_SD_split 9 = .ok (.iload_n 2, 1) := by decide +kernel
theorem d_SD_split_10 : decode b_SD_split 10 = .ok (.aaload, 1) := by decide +kernel
theorem d_SD_split_11 : decode b_SD_split 11 = .ok (.invokevirtual 26, 3) := by decide +kernel
theorem d_SD_split_14 : decode b_SD_split 14 = .ok (.aastore, 1) := by decide +kernel
theorem d_SD_split_15 : decode b_SD_split 15 = .ok (.return_, 1) := by decide +kernel
theorem d_LW_mix64_0 : decode b_LW_mix64 0 = .ok (.lload_n 0, 1) := by decide +kernel
theorem d_LW_mix64_1 : decode b_LW_mix64 1 = .ok (.lload_n 0, 1) := by decide +kernel
theorem d_LW_mix64_2 : decode b_LW_mix64 2 = .ok (.bipush 30, 2) := by decide +kernel
theorem d_LW_mix64_4 : decode b_LW_mix64 4 = .ok (.lushr, 1) := by decide +kernel
theorem d_LW_mix64_5 : decode b_LW_mix64 5 = .ok (.lxor, 1) := by decide +kernel
theorem d_LW_mix64_6 : decode b_LW_mix64 6 = .ok (.ldc2_w 7, 3) := by decide +kernel
theorem d_LW_mix64_9 : decode b_LW_mix64 9 = .ok (.lmul, 1) := by decide +kernel
theorem d_LW_mix64_10 : decode b_LW_mix64 10 = .ok (.lstore_n 0, 1) := by decide +kernel
theorem d_LW_mix64_11 : decode b_LW_mix64 11 = .ok (.lload_n 0, 1) := by decide +kernel
theorem d_LW_mix64_12 : decode b_LW_mix64 12 = .ok (.lload_n 0, 1) := by decide +kernel
theorem d_LW_mix64_13 : decode b_LW_mix64 13 = .ok (.bipush 27, 2) := by decide +kernel
theorem d_LW_mix64_15 : decode b_LW_mix64 15 = .ok (.lushr, 1) := by decide +kernel
theorem d_LW_mix64_16 : decode b_LW_mix64 16 = .ok (.lxor, 1) := by decide +kernel
theorem d_LW_mix64_17 : decode b_LW_mix64 17 = .ok (.ldc2_w 9, 3) := by decide +kernel
theorem d_LW_mix64_20 : decode b_LW_mix64 20 = .ok (.lmul, 1) := by decide +kernel
theorem d_LW_mix64_21 : decode b_LW_mix64 21 = .ok (.lstore_n 0, 1) := by decide +kernel
theorem d_LW_mix64_22 : decode b_LW_mix64 22 = .ok (.lload_n 0, 1) := by decide +kernel
theorem d_LW_mix64_23 : decode b_LW_mix64 23 = .ok (.lload_n 0, 1) := by decide +kernel
theorem d_LW_mix64_24 : decode b_LW_mix64 24 = .ok (.bipush 31, 2) := by decide +kernel
theorem d_LW_mix64_26 : decode b_LW_mix64 26 = .ok (.lushr, 1) := by decide +kernel
theorem d_LW_mix64_27 : decode b_LW_mix64 27 = .ok (.lxor, 1) := by decide +kernel
theorem d_LW_mix64_28 : decode b_LW_mix64 28 = .ok (.lreturn, 1) := by decide +kernel
theorem d_LW_mix32_0 : decode b_LW_mix32 0 = .ok (.lload_n 0, 1) := by decide +kernel
theorem d_LW_mix32_1 : decode b_LW_mix32 1 = .ok (.lload_n 0, 1) := by decide +kernel
theorem d_LW_mix32_2 : decode b_LW_mix32 2 = .ok (.bipush 33, 2) := by decide +kernel
theorem d_LW_mix32_4 : decode b_LW_mix32 4 = .ok (.lushr, 1) := by decide +kernel
theorem d_LW_mix32_5 : decode b_LW_mix32 5 = .ok (.lxor, 1) := by decide +kernel
theorem d_LW_mix32_6 : decode b_LW_mix32 6 = .ok (.ldc2_w 11, 3) := by decide +kernel
theorem d_LW_mix32_9 : decode b_LW_mix32 9 = .ok (.lmul, 1) := by decide +kernel
theorem d_LW_mix32_10 : decode b_LW_mix32 10 = .ok (.lstore_n 0, 1) := by decide +kernel
theorem d_LW_mix32_11 : decode b_LW_mix32 11 = .ok (.lload_n 0, 1) := by decide +kernel
theorem d_LW_mix32_12 : decode b_LW_mix32 12 = .ok (.lload_n 0, 1) := by decide +kernel
theorem d_LW_mix32_13 : decode b_LW_mix32 13 = .ok (.bipush 28, 2) := by decide +kernel
theorem d_LW_mix32_15 : decode b_LW_mix32 15 = .ok (.lushr, 1) := by decide +kernel
theorem d_LW_mix32_16 : decode b_LW_mix32 16 = .ok (.lxor, 1) := by decide +kernel
theorem d_LW_mix32_17 : decode b_LW_mix32 17 = .ok (.ldc2_w 13, 3) := by decide +kernel
theorem d_LW_mix32_20 : decode b_LW_mix32 20 = .ok (.lmul, 1) := by decide +kernel
theorem d_LW_mix32_21 : decode b_LW_mix32 21 = .ok (.bipush 32, 2) := by decide +kernel
theorem d_LW_mix32_23 : decode b_LW_mix32 23 = .ok (.lushr, 1) := by decide +kernel
theorem d_LW_mix32_24 : decode b_LW_mix32 24 = .ok (.l2i, 1) := by decide +kernel
theorem d_LW_mix32_25 : decode b_LW_mix32 25 = .ok (.ireturn, 1) := by decide +kernel
theorem d_LW_gamma_0 : decode b_LW_gamma 0 = .ok (.lload_n 0, 1) := by decide +kernel
theorem d_LW_gamma_1 : decode b_LW_gamma 1 = .ok (.lload_n 0, 1) := by decide +kernel
theorem d_LW_gamma_2 : decode b_LW_gamma 2 = .ok (.bipush 33, 2) := by decide +kernel
theorem d_LW_gamma_4 : decode b_LW_gamma 4 = .ok (.lushr, 1) := by decide +kernel
theorem d_LW_gamma_5 : decode b_LW_gamma 5 = .ok (.lxor, 1) := by decide +kernel
theorem d_LW_gamma_6 : decode b_LW_gamma 6 = .ok (.ldc2_w 15, 3) := by decide +kernel
theorem d_LW_gamma_9 : decode b_LW_gamma 9 = .ok (.lmul, 1) := by decide +kernel
theorem d_LW_gamma_10 : decode b_LW_gamma 10 = .ok (.lstore_n 0, 1) := by decide +kernel
theorem d_LW_gamma_11 : decode b_LW_gamma 11 = .ok (.lload_n 0, 1) := by decide +kernel
theorem d_LW_gamma_12 : decode b_LW_gamma 12 = .ok (.lload_n 0, 1) := by decide +kernel
theorem d_LW_gamma_13 : decode b_LW_gamma 13 = .ok (.bipush 33, 2) := by decide +kernel
theorem d_LW_gamma_15 : decode b_LW_gamma 15 = .ok (.lushr, 1) := by decide +kernel
theorem d_LW_gamma_16 : decode b_LW_gamma 16 = .ok (.lxor, 1) := by decide +kernel
theorem d_LW_gamma_17 : decode b_LW_gamma 17 = .ok (.ldc2_w 17, 3) := by decide +kernel
theorem d_LW_gamma_20 : decode b_LW_gamma 20 = .ok (.lmul, 1) := by decide +kernel
theorem d_LW_gamma_21 : decode b_LW_gamma 21 = .ok (.lstore_n 0, 1) := by decide +kernel
theorem d_LW_gamma_22 : decode b_LW_gamma 22 = .ok (.lload_n 0, 1) := by decide +kernel
theorem d_LW_gamma_23 : decode b_LW_gamma 23 = .ok (.lload_n 0, 1) := by decide +kernel
theorem d_LW_gamma_24 : decode b_LW_gamma 24 = .ok (.bipush 33, 2) := by decide +kernel
theorem d_LW_gamma_26 : decode b_LW_gamma 26 = .ok (.lushr, 1) := by decide +kernel
theorem d_LW_gamma_27 : decode b_LW_gamma 27 = .ok (.lxor, 1) := by decide +kernel
theorem d_LW_gamma_28 : decode b_LW_gamma 28 = .ok (.lconst 1, 1) := by decide +kernel
theorem d_LW_gamma_29 : decode b_LW_gamma 29 = .ok (.lor, 1) := by decide +kernel
theorem d_LW_gamma_30 : decode b_LW_gamma 30 = .ok (.lstore_n 0, 1) := by decide +kernel
theorem d_LW_gamma_31 : decode b_LW_gamma 31 = .ok (.iconst 0, 1) := by decide +kernel
theorem d_LW_gamma_32 : decode b_LW_gamma 32 = .ok (.istore_n 2, 1) := by decide +kernel
theorem d_LW_gamma_33 : decode b_LW_gamma 33 = .ok (.iconst 0, 1) := by decide +kernel
theorem d_LW_gamma_34 : decode b_LW_gamma 34 = .ok (.istore_n 3, 1) := by decide +kernel
theorem d_LW_gamma_35 : decode b_LW_gamma 35 = .ok (.iload_n 3, 1) := by decide +kernel
theorem d_LW_gamma_36 : decode b_LW_gamma 36 = .ok (.bipush 64, 2) := by decide +kernel
theorem d_LW_gamma_38 : decode b_LW_gamma 38 = .ok (.if_icmp .ge 38, 3) := by decide +kernel
theorem d_LW_gamma_41 : decode b_LW_gamma 41 = .ok (.lload_n 0, 1) := by decide +kernel
theorem d_LW_gamma_42 : decode b_LW_gamma 42 = .ok (.iload_n 3, 1) := by decide +kernel
theorem d_LW_gamma_43 : decode b_LW_gamma 43 = .ok (.lushr, 1) := by decide +kernel
theorem d_LW_gamma_44 : decode b_LW_gamma 44 = .ok (.lconst 1, 1) := by decide +kernel
theorem d_LW_gamma_45 : decode b_LW_gamma 45 = .ok (.land, 1) := by decide +kernel
theorem d_LW_gamma_46 : decode b_LW_gamma 46 = .ok (.iload_n 3, 1) := by decide +kernel
theorem d_LW_gamma_47 : decode b_LW_gamma 47 = .ok (.bipush 63, 2) := by decide +kernel
theorem d_LW_gamma_49 : decode b_LW_gamma 49 = .ok (.if_icmp .ne 7, 3) := by decide +kernel
theorem d_LW_gamma_52 : decode b_LW_gamma 52 = .ok (.lconst 0, 1) := by decide +kernel
theorem d_LW_gamma_53 : decode b_LW_gamma 53 = .ok (.goto 10, 3) := by decide +kernel
theorem d_LW_gamma_56 : decode b_LW_gamma 56 = .ok (.lload_n 0, 1) := by decide +kernel
theorem d_LW_gamma_57 : decode b_LW_gamma 57 = .ok (.iload_n 3, 1) := by decide +kernel
theorem d_LW_gamma_58 : decode b_LW_gamma 58 = .ok (.iconst 1, 1) := by decide +kernel
theorem d_LW_gamma_59 : decode b_LW_gamma 59 = .ok (.iadd, 1) := by decide +kernel
theorem d_LW_gamma_60 : decode b_LW_gamma 60 = .ok (.lushr, 1) := by decide +kernel
theorem d_LW_gamma_61 : decode b_LW_gamma 61 = .ok (.lconst 1, 1) := by decide +kernel
theorem d_LW_gamma_62 : decode b_LW_gamma 62 = .ok (.land, 1) := by decide +kernel
theorem d_LW_gamma_63 : decode b_LW_gamma 63 = .ok (.lcmp, 1) := by decide +kernel
theorem d_LW_gamma_64 : decode b_LW_gamma 64 = .ok (.ifCond .eq 6, 3) := by decide +kernel
theorem d_LW_gamma_67 : decode b_LW_gamma 67 = .ok (.iinc 2 1, 3) := by decide +kernel
theorem d_LW_gamma_70 : decode b_LW_gamma 70 = .ok (.iinc 3 1, 3) := by decide +kernel
theorem d_LW_gamma_73 : decode b_LW_gamma 73 = .ok (.goto (-38), 3) := by decide +kernel
theorem d_LW_gamma_76 : decode b_LW_gamma 76 = .ok (.iload_n 2, 1) := by decide +kernel
theorem d_LW_gamma_77 : decode b_LW_gamma 77 = .ok (.bipush 24, 2) := by decide +kernel
theorem d_LW_gamma_79 : decode b_LW_gamma 79 = .ok (.if_icmp .ge 11, 3) := by decide +kernel
theorem d_LW_gamma_82 : decode b_LW_gamma 82 = .ok (.lload_n 0, 1) := by decide +kernel
theorem d_LW_gamma_83 : decode b_LW_gamma 83 = .ok (.ldc2_w 19, 3) := by decide +kernel
theorem d_LW_gamma_86 : decode b_LW_gamma 86 = .ok (.lxor, 1) := by decide +kernel
theorem d_LW_gamma_87 : decode b_LW_gamma 87 = .ok (.goto 4, 3) := by decide +kernel
theorem d_LW_gamma_90 : decode b_LW_gamma 90 = .ok (.lload_n 0, 1) := by decide +kernel
theorem d_LW_gamma_91 : decode b_LW_gamma 91 = .ok (.lreturn, 1) := by decide +kernel
theorem d_LG_bit_0 : decode b_LG_bit 0 = .ok (.lload_n 0, 1) := by decide +kernel
theorem d_LG_bit_1 : decode b_LG_bit 1 = .ok (.lload_n 0, 1) := by decide +kernel
theorem d_LG_bit_2 : decode b_LG_bit 2 = .ok (.iconst 1, 1) := by decide +kernel
theorem d_LG_bit_3 : decode b_LG_bit 3 = .ok (.lushr, 1) := by decide +kernel
theorem d_LG_bit_4 : decode b_LG_bit 4 = .ok (.ldc2_w 314, 3) := by decide +kernel
theorem d_LG_bit_7 : decode b_LG_bit 7 = .ok (.land, 1) := by decide +kernel
theorem d_LG_bit_8 : decode b_LG_bit 8 = .ok (.lsub, 1) := by decide +kernel
theorem d_LG_bit_9 : decode b_LG_bit 9 = .ok (.lstore_n 0, 1) := by decide +kernel
theorem d_LG_bit_10 : decode b_LG_bit 10 = .ok (.lload_n 0, 1) := by decide +kernel
theorem d_LG_bit_11 : decode b_LG_bit 11 = .ok (.ldc2_w 316, 3) := by decide +kernel
theorem d_LG_bit_14 : decode b_LG_bit 14 = .ok (.land, 1) := by decide +kernel
theorem d_LG_bit_15 : decode b_LG_bit 15 = .ok (.lload_n 0, 1) := by decide +kernel
theorem d_LG_bit_16 : decode b_LG_bit 16 = .ok (.iconst 2, 1) := by decide +kernel
theorem d_LG_bit_17 : decode b_LG_bit 17 = .ok (.lushr, 1) := by decide +kernel
theorem d_LG_bit_18 : decode b_LG_bit 18 = .ok (.ldc2_w 316, 3) := by decide +kernel
theorem d_LG_bit_21 : decode b_LG_bit 21 = .ok (.land, 1) := by decide +kernel
theorem d_LG_bit_22 : decode b_LG_bit 22 = .ok (.ladd, 1) := by decide +kernel
theorem d_LG_bit_23 : decode b_LG_bit 23 = .ok (.lstore_n 0, 1) := by decide +kernel
theorem d_LG_bit_24 : decode b_LG_bit 24 = .ok (.lload_n 0, 1) := by decide +kernel
theorem d_LG_bit_25 : decode b_LG_bit 25 = .ok (.lload_n 0, 1) := by decide +kernel
theorem d_LG_bit_26 : decode b_LG_bit 26 = .ok (.iconst 4, 1) := by decide +kernel
theorem d_LG_bit_27 : decode b_LG_bit 27 = .ok (.lushr, 1) := by decide +kernel
theorem d_LG_bit_28 : decode b_LG_bit 28 = .ok (.ladd, 1) := by decide +kernel
theorem d_LG_bit_29 : decode b_LG_bit 29 = .ok (.ldc2_w 318, 3) := by decide +kernel
theorem d_LG_bit_32 : decode b_LG_bit 32 = .ok (.land, 1) := by decide +kernel
theorem d_LG_bit_33 : decode b_LG_bit 33 = .ok (.lstore_n 0, 1) := by decide +kernel
theorem d_LG_bit_34 : decode b_LG_bit 34 = .ok (.lload_n 0, 1) := by decide +kernel
theorem d_LG_bit_35 : decode b_LG_bit 35 = .ok (.lload_n 0, 1) := by decide +kernel
theorem d_LG_bit_36 : decode b_LG_bit 36 = .ok (.bipush 8, 2) := by decide +kernel
theorem d_LG_bit_38 : decode b_LG_bit 38 = .ok (.lushr, 1) := by decide +kernel
theorem d_LG_bit_39 : decode b_LG_bit 39 = .ok (.ladd, 1) := by decide +kernel
theorem d_LG_bit_40 : decode b_LG_bit 40 = .ok (.lstore_n 0, 1) := by decide +kernel
theorem d_LG_bit_41 : decode b_LG_bit 41 = .ok (.lload_n 0, 1) := by decide +kernel
theorem d_LG_bit_42 : decode b_LG_bit 42 = .ok (.lload_n 0, 1) := by decide +kernel
theorem d_LG_bit_43 : decode b_LG_bit 43 = .ok (.bipush 16, 2) := by decide +kernel
theorem d_LG_bit_45 : decode b_LG_bit 45 = .ok (.lushr, 1) := by decide +kernel
theorem d_LG_bit_46 : decode b_LG_bit 46 = .ok (.ladd, 1) := by decide +kernel
theorem d_LG_bit_47 : decode b_LG_bit 47 = .ok (.lstore_n 0, 1) := by decide +kernel
theorem d_LG_bit_48 : decode b_LG_bit 48 = .ok (.lload_n 0, 1) := by decide +kernel
theorem d_LG_bit_49 : decode b_LG_bit 49 = .ok (.lload_n 0, 1) := by decide +kernel
theorem d_LG_bit_50 : decode b_LG_bit 50 = .ok (.bipush 32, 2) := by decide +kernel
theorem d_LG_bit_52 : decode b_LG_bit 52 = .ok (.lushr, 1) := by decide +kernel
theorem d_LG_bit_53 : decode b_LG_bit 53 = .ok (.ladd, 1) := by decide +kernel
theorem d_LG_bit_54 : decode b_LG_bit 54 = .ok (.lstore_n 0, 1) := by decide +kernel
theorem d_LG_bit_55 : decode b_LG_bit 55 = .ok (.lload_n 0, 1) := by decide +kernel
theorem d_LG_bit_56 : decode b_LG_bit 56 = .ok (.l2i, 1) := by decide +kernel
theorem d_LG_bit_57 : decode b_LG_bit 57 = .ok (.bipush 127, 2) := by decide +kernel
theorem d_LG_bit_59 : decode b_LG_bit 59 = .ok (.iand, 1) := by decide +kernel
theorem d_LG_bit_60 : decode b_LG_bit 60 = .ok (.ireturn, 1) := by decide +kernel
theorem d_SR_initJ_0 : decode b_SR_initJ 0 = .ok (.aload_n 0, 1) := by decide +kernel
theorem d_SR_initJ_1 : decode b_SR_initJ 1 = .ok (.lload_n 1, 1) := by decide +kernel
theorem d_SR_initJ_2 : decode b_SR_initJ 2 = .ok (.ldc2_w 45, 3) := by decide +kernel
theorem d_SR_initJ_5 : decode b_SR_initJ 5 = .ok (.invokespecial 47, 3) := by decide +kernel
theorem d_SR_initJ_8 : decode b_SR_initJ 8 = .ok (.return_, 1) := by decide +kernel
theorem d_SR_initJJ_0 : decode b_SR_initJJ 0 = .ok (.aload_n 0, 1) := by decide +kernel
theorem d_SR_initJJ_1 : decode b_SR_initJJ 1 = .ok (.invokespecial 1, 3) := by decide +kernel
theorem d_SR_initJJ_4 : decode b_SR_initJJ 4 = .ok (.aload_n 0, 1) := by decide +kernel
theorem d_SR_initJJ_5 : decode b_SR_initJJ 5 = .ok (.lload_n 1, 1) := by decide +kernel
theorem d_SR_initJJ_6 : decode b_SR_initJJ 6 = .ok (.putfield 7, 3) := by decide +kernel
theorem d_SR_initJJ_9 : decode b_SR_initJJ 9 = .ok (.aload_n 0, 1) := by decide +kernel
theorem d_SR_initJJ_10 : decode b_SR_initJJ 10 = .ok (.lload_n 3, 1) := by decide +kernel
theorem d_SR_initJJ_11 : decode b_SR_initJJ 11 = .ok (.putfield 13, 3) := by decide +kernel
theorem d_SR_initJJ_14 : decode b_SR_initJJ 14 = .ok (.aload_n 0, 1) := by decide +kernel
theorem d_SR_initJJ_15 : decode b_SR_initJJ 15 = .ok (.new 16, 3) := by decide +kernel
theorem d_SR_initJJ_18 : decode b_SR_initJJ 18 = .ok (.dup, 1) := by decide +kernel
theorem d_SR_initJJ_19 : decode b_SR_initJJ 19 = .ok (.aload_n 0, 1) := by decide +kernel
theorem d_SR_initJJ_20 : decode b_SR_initJJ 20 = .ok (.invokespecial 18, 3) := by decide +kernel
theorem d_SR_initJJ_23 : decode b_SR_initJJ 23 = .ok (.putfield 21, 3) := by decide +kernel
theorem d_SR_initJJ_26 : decode b_SR_initJJ 26 = .ok (.return_, 1) := by decide +kernel
theorem d_SR_mix32_0 : decode b_SR_mix32 0 = .ok (.lload_n 0, 1) := by decide +kernel
theorem d_SR_mix32_1 : decode b_SR_mix32 1 = .ok (.lload_n 0, 1) := by decide +kernel
theorem d_SR_mix32_2 : decode b_SR_mix32 2 = .ok (.bipush 33, 2) := by decide +kernel
theorem d_SR_mix32_4 : decode b_SR_mix32 4 = .ok (.lushr, 1) := by decide +kernel
theorem d_SR_mix32_5 : decode b_SR_mix32 5 = .ok (.lxor, 1) := by decide +kernel
theorem d_SR_mix32_6 : decode b_SR_mix32 6 = .ok (.ldc2_w 29, 3) := by decide +kernel
theorem d_SR_mix32_9 : decode b_SR_mix32 9 = .ok (.lmul, 1) := by decide +kernel
theorem d_SR_mix32_10 : decode b_SR_mix32 10 = .ok (.lstore_n 0, 1) := by decide +kernel
theorem d_SR_mix32_11 : decode b_SR_mix32 11 = .ok (.lload_n 0, 1) := by decide +kernel
theorem d_SR_mix32_12 : decode b_SR_mix32 12 = .ok (.lload_n 0, 1) := by decide +kernel
theorem d_SR_mix32_13 : decode b_SR_mix32 13 = .ok (.bipush 28, 2) := by decide +kernel
theorem d_SR_mix32_15 : decode b_SR_mix32 15 = .ok (.lushr, 1) := by decide +kernel
theorem d_SR_mix32_16 : decode b_SR_mix32 16 = .ok (.lxor, 1) := by decide +kernel
theorem d_SR_mix32_17 : decode b_SR_mix32 17 = .ok (.ldc2_w 31, 3) := by decide +kernel
theorem d_SR_mix32_20 : decode b_SR_mix32 20 = .ok (.lmul, 1) := by decide +kernel
theorem d_SR_mix32_21 : decode b_SR_mix32 21 = .ok (.bipush 32, 2) := by decide +kernel
theorem d_SR_mix32_23 : decode b_SR_mix32 23 = .ok (.lushr, 1) := by decide +kernel
theorem d_SR_mix32_24 : decode b_SR_mix32 24 = .ok (.l2i, 1) := by decide +kernel
theorem d_SR_mix32_25 : decode b_SR_mix32 25 = .ok (.ireturn, 1) := by decide +kernel
theorem d_SR_mix64_0 : decode b_SR_mix64 0 = .ok (.lload_n 0, 1) := by decide +kernel
theorem d_SR_mix64_1 : decode b_SR_mix64 1 = .ok (.lload_n 0, 1) := by decide +kernel
theorem d_SR_mix64_2 : decode b_SR_mix64 2 = .ok (.bipush 30, 2) := by decide +kernel
theorem d_SR_mix64_4 : decode b_SR_mix64 4 = .ok (.lushr, 1) := by decide +kernel
theorem d_SR_mix64_5 : decode b_SR_mix64 5 = .ok (.lxor, 1) := by decide +kernel
theorem d_SR_mix64_6 : decode b_SR_mix64 6 = .ok (.ldc2_w 25, 3) := by decide +kernel
theorem d_SR_mix64_9 : decode b_SR_mix64 9 = .ok (.lmul, 1) := by decide +kernel
theorem d_SR_mix64_10 : decode b_SR_mix64 10 = .ok (.lstore_n 0, 1) := by decide +kernel
theorem d_SR_mix64_11 : decode b_SR_mix64 11 = .ok (.lload_n 0, 1) := by decide +kernel
theorem d_SR_mix64_12 : decode b_SR_mix64 12 = .ok (.lload_n 0, 1) := by decide +kernel
theorem d_SR_mix64_13 : decode b_SR_mix64 13 = .ok (.bipush 27, 2) := by decide +kernel
theorem d_SR_mix64_15 : decode b_SR_mix64 15 = .ok (.lushr, 1) := by decide +kernel
theorem d_SR_mix64_16 : decode b_SR_mix64 16 = .ok (.lxor, 1) := by decide +kernel
theorem d_SR_mix64_17 : decode b_SR_mix64 17 = .ok (.ldc2_w 27, 3) := by decide +kernel
theorem d_SR_mix64_20 : decode b_SR_mix64 20 = .ok (.lmul, 1) := by decide +kernel
theorem d_SR_mix64_21 : decode b_SR_mix64 21 = .ok (.lstore_n 0, 1) := by decide +kernel
theorem d_SR_mix64_22 : decode b_SR_mix64 22 = .ok (.lload_n 0, 1) := by decide +kernel
theorem d_SR_mix64_23 : decode b_SR_mix64 23 = .ok (.lload_n 0, 1) := by decide +kernel
theorem d_SR_mix64_24 : decode b_SR_mix64 24 = .ok (.bipush 31, 2) := by decide +kernel
theorem d_SR_mix64_26 : decode b_SR_mix64 26 = .ok (.lushr, 1) := by decide +kernel
theorem d_SR_mix64_27 : decode b_SR_mix64 27 = .ok (.lxor, 1) := by decide +kernel
theorem d_SR_mix64_28 : decode b_SR_mix64 28 = .ok (.lreturn, 1) := by decide +kernel
theorem d_SR_mixG_0 : decode b_SR_mixG 0 = .ok (.lload_n 0, 1) := by decide +kernel
theorem d_SR_mixG_1 : decode b_SR_mixG 1 = .ok (.lload_n 0, 1) := by decide +kernel
theorem d_SR_mixG_2 : decode b_SR_mixG 2 = .ok (.bipush 33, 2) := by decide +kernel
theorem d_SR_mixG_4 : decode b_SR_mixG 4 = .ok (.lushr, 1) := by decide +kernel
theorem d_SR_mixG_5 : decode b_SR_mixG 5 = .ok (.lxor, 1) := by decide +kernel
theorem d_SR_mixG_6 : decode b_SR_mixG 6 = .ok (.ldc2_w 33, 3) := by decide +kernel
theorem d_SR_mixG_9 : decode b_SR_mixG 9 = .ok (.lmul, 1) := by decide +kernel
theorem d_SR_mixG_10 : decode b_SR_mixG 10 = .ok (.lstore_n 0, 1) := by decide +kernel
theorem d_SR_mixG_11 : decode b_SR_mixG 11 = .ok (.lload_n 0, 1) := by decide +kernel
theorem d_SR_mixG_12 : decode b_SR_mixG 12 = .ok (.lload_n 0, 1) := by decide +kernel
theorem d_SR_mixG_13 : decode b_SR_mixG 13 = .ok (.bipush 33, 2) := by decide +kernel
theorem d_SR_mixG_15 : decode b_SR_mixG 15 = .ok (.lushr, 1) := by decide +kernel
theorem d_SR_mixG_16 : decode b_SR_mixG 16 = .ok (.lxor, 1) := by decide +kernel
theorem d_SR_mixG_17 : decode b_SR_mixG 17 = .ok (.ldc2_w 35, 3) := by decide +kernel
theorem d_SR_mixG_20 : decode b_SR_mixG 20 = .ok (.lmul, 1) := by decide +kernel
theorem d_SR_mixG_21 : decode b_SR_mixG 21 = .ok (.lstore_n 0, 1) := by decide +kernel
theorem d_SR_mixG_22 : decode b_SR_mixG 22 = .ok (.lload_n 0, 1) := by decide +kernel
theorem d_SR_mixG_23 : decode b_SR_mixG 23 = .ok (.lload_n 0, 1) := by decide +kernel
theorem d_SR_mixG_24 : decode b_SR_mixG 24 = .ok (.bipush 33, 2) := by decide +kernel
theorem d_SR_mixG_26 : decode b_SR_mixG 26 = .ok (.lushr, 1) := by decide +kernel
theorem d_SR_mixG_27 : decode b_SR_mixG 27 = .ok (.lxor, 1) := by decide +kernel
theorem d_SR_mixG_28 : decode b_SR_mixG 28 = .ok (.lconst 1, 1) := by decide +kernel
theorem d_SR_mixG_29 : decode b_SR_mixG 29 = .ok (.lor, 1) := by decide +kernel
theorem d_SR_mixG_30 : decode b_SR_mixG 30 = .ok (.lstore_n 0, 1) := by decide +kernel
theorem d_SR_mixG_31 : decode b_SR_mixG 31 = .ok (.lload_n 0, 1) := by decide +kernel
theorem d_SR_mixG_32 : decode b_SR_mixG 32 = .ok (.lload_n 0, 1) := by decide +kernel
theorem d_SR_mixG_33 : decode b_SR_mixG 33 = .ok (.iconst 1, 1) := by decide +kernel
theorem d_SR_mixG_34 : decode b_SR_mixG 34 = .ok (.lushr, 1) := by decide +kernel
theorem d_SR_mixG_35 : decode b_SR_mixG 35 = .ok (.lxor, 1) := by decide +kernel
theorem d_SR_mixG_36 : decode b_SR_mixG 36 = .ok (.invokestatic 37, 3) := by decide +kernel
theorem d_SR_mixG_39 : decode b_SR_mixG 39 = .ok (.istore_n 2, 1) := by decide +kernel
theorem d_SR_mixG_40 : decode b_SR_mixG 40 = .ok (.iload_n 2, 1) := by decide +kernel
theorem d_SR_mixG_41 : decode b_SR_mixG 41 = .ok (.bipush 24, 2) := by decide +kernel
theorem d_SR_mixG_43 : decode b_SR_mixG 43 = .ok (.if_icmp .ge 11, 3) := by decide +kernel
theorem d_SR_mixG_46 : decode b_SR_mixG 46 = .ok (.lload_n 0, 1) := by decide +kernel
theorem d_SR_mixG_47 : decode b_SR_mixG 47 = .ok (.ldc2_w 43, 3) := by decide +kernel
theorem d_SR_mixG_50 : decode b_SR_mixG 50 = .ok (.lxor, 1) := by decide +kernel
theorem d_SR_mixG_51 : decode b_SR_mixG 51 = .ok (.goto 4, 3) := by decide +kernel
theorem d_SR_mixG_54 : decode b_SR_mixG 54 = .ok (.lload_n 0, 1) := by decide +kernel
theorem d_SR_mixG_55 : decode b_SR_mixG 55 = .ok (.lreturn, 1) := by decide +kernel
theorem d_SR_nextInt_0 : decode b_SR_nextInt 0 = .ok (.aload_n 0, 1) := by decide +kernel
theorem d_SR_nextInt_1 : decode b_SR_nextInt 1 = .ok (.invokevirtual 72, 3) := by decide +kernel
theorem d_SR_nextInt_4 : decode b_SR_nextInt 4 = .ok (.invokestatic 78, 3) := by decide +kernel
theorem d_SR_nextInt_7 : decode b_SR_nextInt 7 = .ok (.ireturn, 1) := by decide +kernel
theorem d_SR_nextLong_0 : decode b_SR_nextLong 0 = .ok (.aload_n 0, 1) := by decide +kernel
theorem d_SR_nextLong_1 : decode b_SR_nextLong 1 = .ok (.invokevirtual 72, 3) := by decide +kernel
theorem d_SR_nextLong_4 : decode b_SR_nextLong 4 = .ok (.invokestatic 62, 3) := by decide +kernel
theorem d_SR_nextLong_7 : decode b_SR_nextLong 7 = .ok (.lreturn, 1) := by decide +kernel
theorem d_SR_next_0 : decode b_SR_next 0 = .ok (.aload_n 0, 1) := by decide +kernel
theorem d_SR_next_1 : decode b_SR_next 1 = .ok (.dup, 1) := by decide +kernel
theorem d_SR_next_2 : decode b_SR_next 2 = .ok (.getfield 7, 3) := by decide +kernel
theorem d_SR_next_5 : decode b_SR_next 5 = .ok (.aload_n 0, 1) := by decide +kernel
theorem d_SR_next_6 : decode b_SR_next 6 = .ok (.getfield 13, 3) := by decide +kernel
theorem d_SR_next_9 : decode b_SR_next 9 = .ok (.ladd, 1) := by decide +kernel
theorem d_SR_next_10 : decode b_SR_next 10 = .ok (.dup2_x1, 1) := by decide +kernel
theorem d_SR_next_11 : decode b_SR_next 11 = .ok (.putfield 7, 3) := by decide +kernel
theorem d_SR_next_14 : decode b_SR_next 14 = .ok (.lreturn, 1) := by decide +kernel
theorem d_SR_split_0 : decode b_SR_split 0 = .ok (.new 8, 3) := by decide +kernel
theorem d_SR_split_3 : decode b_SR_split 3 = .ok (.dup, 1) := by decide +kernel
theorem d_SR_split_4 : decode b_SR_split 4 = .ok (.aload_n 0, 1) := by decide +kernel
theorem d_SR_split_5 : decode b_SR_split 5 = .ok (.invokevirtual 68, 3) := by decide +kernel
theorem d_SR_split_8 : decode b_SR_split 8 = .ok (.aload_n 0, 1) := by decide +kernel
theorem d_SR_split_9 : decode b_SR_split 9 = .ok (.invokevirtual 72, 3) := by decide +kernel
theorem d_SR_split_12 : decode b_SR_split 12 = .ok (.invokestatic 65, 3) := by decide +kernel
theorem d_SR_split_15 : decode b_SR_split 15 = .ok (.invokespecial 47, 3) := by decide +kernel
theorem d_SR_split_18 : decode b_SR_split 18 = .ok (.areturn, 1) := by decide +kernel
theorem d_PX_init_0 : decode b_PX_init 0 = .ok (.aload_n 0, 1) := by decide +kernel
theorem d_PX_init_1 : decode b_PX_init 1 = .ok (.aload_n 1, 1) := by decide +kernel
theorem d_PX_init_2 : decode b_PX_init 2 = .ok (.putfield 1, 3) := by decide +kernel
theorem d_PX_init_5 : decode b_PX_init 5 = .ok (.aload_n 0, 1) := by decide +kernel
theorem d_PX_init_6 : decode b_PX_init 6 = .ok (.invokespecial 7, 3) := by decide +kernel
theorem d_PX_init_9 : decode b_PX_init 9 = .ok (.return_, 1) := by decide +kernel
theorem d_SG_init_0 : decode b_SG_init 0 = .ok (.aload_n 0, 1) := by decide +kernel
theorem d_SG_init_1 : decode b_SG_init 1 = .ok (.invokespecial 1, 3) := by decide +kernel
theorem d_SG_init_4 : decode b_SG_init 4 = .ok (.return_, 1) := by decide +kernel
theorem d_SP_init_0 : decode b_SP_init 0 = .ok (.aload_n 0, 1) := by decide +kernel
theorem d_SP_init_1 : decode b_SP_init 1 = .ok (.invokespecial 1, 3) := by decide +kernel
theorem d_SP_init_4 : decode b_SP_init 4 = .ok (.return_, 1) := by decide +kernel
end
section
theorem d_law_0 : decode code 0 = .ok (.new 21, 3) := by decide +kernel
theorem d_law_3 : decode code 3 = .ok (.dup, 1) := by decide +kernel
theorem d_law_4 : decode code 4 = .ok (.invokespecial 23, 3) := by decide +kernel
theorem d_law_7 : decode code 7 = .ok (.astore_n 1, 1) := by decide +kernel
theorem d_law_8 : decode code 8 = .ok (.iconst 4, 1) := by decide +kernel
theorem d_law_9 : decode code 9 = .ok (.newarray .long, 2) := by decide +kernel
theorem d_law_11 : decode code 11 = .ok (.dup, 1) := by decide +kernel
theorem d_law_12 : decode code 12 = .ok (.iconst 0, 1) := by decide +kernel
theorem d_law_13 : decode code 13 = .ok (.lconst 0, 1) := by decide +kernel
theorem d_law_14 : decode code 14 = .ok (.lastore, 1) := by decide +kernel
theorem d_law_15 : decode code 15 = .ok (.dup, 1) := by decide +kernel
theorem d_law_16 : decode code 16 = .ok (.iconst 1, 1) := by decide +kernel
theorem d_law_17 : decode code 17 = .ok (.lconst 1, 1) := by decide +kernel
theorem d_law_18 : decode code 18 = .ok (.lastore, 1) := by decide +kernel
theorem d_law_19 : decode code 19 = .ok (.dup, 1) := by decide +kernel
theorem d_law_20 : decode code 20 = .ok (.iconst 2, 1) := by decide +kernel
theorem d_law_21 : decode code 21 = .ok (.ldc2_w 24, 3) := by decide +kernel
theorem d_law_24 : decode code 24 = .ok (.lastore, 1) := by decide +kernel
theorem d_law_25 : decode code 25 = .ok (.dup, 1) := by decide +kernel
theorem d_law_26 : decode code 26 = .ok (.iconst 3, 1) := by decide +kernel
theorem d_law_27 : decode code 27 = .ok (.ldc2_w 26, 3) := by decide +kernel
theorem d_law_30 : decode code 30 = .ok (.lastore, 1) := by decide +kernel
theorem d_law_31 : decode code 31 = .ok (.astore_n 2, 1) := by decide +kernel
theorem d_law_32 : decode code 32 = .ok (.iconst 4, 1) := by decide +kernel
theorem d_law_33 : decode code 33 = .ok (.newarray .long, 2) := by decide +kernel
theorem d_law_35 : decode code 35 = .ok (.dup, 1) := by decide +kernel
theorem d_law_36 : decode code 36 = .ok (.iconst 0, 1) := by decide +kernel
theorem d_law_37 : decode code 37 = .ok (.ldc2_w 28, 3) := by decide +kernel
theorem d_law_40 : decode code 40 = .ok (.lastore, 1) := by decide +kernel
theorem d_law_41 : decode code 41 = .ok (.dup, 1) := by decide +kernel
theorem d_law_42 : decode code 42 = .ok (.iconst 1, 1) := by decide +kernel
theorem d_law_43 : decode code 43 = .ok (.ldc2_w 28, 3) := by decide +kernel
theorem d_law_46 : decode code 46 = .ok (.lastore, 1) := by decide +kernel
theorem d_law_47 : decode code 47 = .ok (.dup, 1) := by decide +kernel
theorem d_law_48 : decode code 48 = .ok (.iconst 2, 1) := by decide +kernel
theorem d_law_49 : decode code 49 = .ok (.ldc2_w 28, 3) := by decide +kernel
theorem d_law_52 : decode code 52 = .ok (.lastore, 1) := by decide +kernel
theorem d_law_53 : decode code 53 = .ok (.dup, 1) := by decide +kernel
theorem d_law_54 : decode code 54 = .ok (.iconst 3, 1) := by decide +kernel
theorem d_law_55 : decode code 55 = .ok (.ldc2_w 28, 3) := by decide +kernel
theorem d_law_58 : decode code 58 = .ok (.lastore, 1) := by decide +kernel
theorem d_law_59 : decode code 59 = .ok (.astore_n 3, 1) := by decide +kernel
theorem d_law_60 : decode code 60 = .ok (.iconst 0, 1) := by decide +kernel
theorem d_law_61 : decode code 61 = .ok (.istore 4, 2) := by decide +kernel
theorem d_law_63 : decode code 63 = .ok (.iload 4, 2) := by decide +kernel
theorem d_law_65 : decode code 65 = .ok (.aload_n 0, 1) := by decide +kernel
theorem d_law_66 : decode code 66 = .ok (.arraylength, 1) := by decide +kernel
theorem d_law_67 : decode code 67 = .ok (.if_icmp .ge 237, 3) := by decide +kernel
theorem d_law_70 : decode code 70 = .ok (.aload_n 0, 1) := by decide +kernel
theorem d_law_71 : decode code 71 = .ok (.iload 4, 2) := by decide +kernel
theorem d_law_73 : decode code 73 = .ok (.iaload, 1) := by decide +kernel
theorem d_law_74 : decode code 74 = .ok (.istore 5, 2) := by decide +kernel
theorem d_law_76 : decode code 76 = .ok (.iload 5, 2) := by decide +kernel
theorem d_law_78 : decode code 78 = .ok (.iconst 4, 1) := by decide +kernel
theorem d_law_79 : decode code 79 = .ok (.ishr, 1) := by decide +kernel
theorem d_law_80 : decode code 80 = .ok (.iconst 3, 1) := by decide +kernel
theorem d_law_81 : decode code 81 = .ok (.iand, 1) := by decide +kernel
theorem d_law_82 : decode code 82 = .ok (.istore 6, 2) := by decide +kernel
theorem d_law_84 : decode code 84 = .ok (.iload 5, 2) := by decide +kernel
theorem d_law_86 : decode code 86 = .ok (.bipush 6, 2) := by decide +kernel
theorem d_law_88 : decode code 88 = .ok (.ishr, 1) := by decide +kernel
theorem d_law_89 : decode code 89 = .ok (.iconst 3, 1) := by decide +kernel
theorem d_law_90 : decode code 90 = .ok (.iand, 1) := by decide +kernel
theorem d_law_91 : decode code 91 = .ok (.istore 7, 2) := by decide +kernel
theorem d_law_93 : decode code 93 = .ok (.iload 5, 2) := by decide +kernel
theorem d_law_95 : decode code 95 = .ok (.bipush 15, 2) := by decide +kernel
theorem d_law_97 : decode code 97 = .ok (.iand, 1) := by decide +kernel
theorem d_law_98 : decode code 98 = .ok (.tableswitch 170 0 8 #[50, 86, 86, 86, 141, 141, 141, 141, 141], 50) := by decide +kernel
theorem d_law_148 : decode code 148 = .ok (.iload 5, 2) := by decide +kernel
theorem d_law_150 : decode code 150 = .ok (.i2l, 1) := by decide +kernel
theorem d_law_151 : decode code 151 = .ok (.bipush 21, 2) := by decide +kernel
theorem d_law_153 : decode code 153 = .ok (.lshl, 1) := by decide +kernel
theorem d_law_154 : decode code 154 = .ok (.iload 5, 2) := by decide +kernel
theorem d_law_156 : decode code 156 = .ok (.i2l, 1) := by decide +kernel
theorem d_law_157 : decode code 157 = .ok (.lxor, 1) := by decide +kernel
theorem d_law_158 : decode code 158 = .ok (.lstore 8, 2) := by decide +kernel
theorem d_law_160 : decode code 160 = .ok (.aload_n 1, 1) := by decide +kernel
theorem d_law_161 : decode code 161 = .ok (.iload 6, 2) := by decide +kernel
theorem d_law_163 : decode code 163 = .ok (.lload 8, 2) := by decide +kernel
theorem d_law_165 : decode code 165 = .ok (.invokevirtual 30, 3) := by decide +kernel
theorem d_law_168 : decode code 168 = .ok (.aload_n 2, 1) := by decide +kernel
theorem d_law_169 : decode code 169 = .ok (.iload 6, 2) := by decide +kernel
theorem d_law_171 : decode code 171 = .ok (.lload 8, 2) := by decide +kernel
theorem d_law_173 : decode code 173 = .ok (.lastore, 1) := by decide +kernel
theorem d_law_174 : decode code 174 = .ok (.aload_n 3, 1) := by decide +kernel
theorem d_law_175 : decode code 175 = .ok (.iload 6, 2) := by decide +kernel
theorem d_law_177 : decode code 177 = .ok (.ldc2_w 28, 3) := by decide +kernel
theorem d_law_180 : decode code 180 = .ok (.lastore, 1) := by decide +kernel
theorem d_law_181 : decode code 181 = .ok (.goto 117, 3) := by decide +kernel
theorem d_law_184 : decode code 184 = .ok (.aload_n 2, 1) := by decide +kernel
theorem d_law_185 : decode code 185 = .ok (.iload 7, 2) := by decide +kernel
theorem d_law_187 : decode code 187 = .ok (.laload, 1) := by decide +kernel
theorem d_law_188 : decode code 188 = .ok (.aload_n 3, 1) := by decide +kernel
theorem d_law_189 : decode code 189 = .ok (.iload 7, 2) := by decide +kernel
theorem d_law_191 : decode code 191 = .ok (.laload, 1) := by decide +kernel
theorem d_law_192 : decode code 192 = .ok (.ladd, 1) := by decide +kernel
theorem d_law_193 : decode code 193 = .ok (.lstore 8, 2) := by decide +kernel
theorem d_law_195 : decode code 195 = .ok (.lload 8, 2) := by decide +kernel
theorem d_law_197 : decode code 197 = .ok (.aload_n 3, 1) := by decide +kernel
theorem d_law_198 : decode code 198 = .ok (.iload 7, 2) := by decide +kernel
theorem d_law_200 : decode code 200 = .ok (.laload, 1) := by decide +kernel
theorem d_law_201 : decode code 201 = .ok (.ladd, 1) := by decide +kernel
theorem d_law_202 : decode code 202 = .ok (.lstore 10, 2) := by decide +kernel
theorem d_law_204 : decode code 204 = .ok (.aload_n 1, 1) := by decide +kernel
theorem d_law_205 : decode code 205 = .ok (.iload 6, 2) := by decide +kernel
theorem d_law_207 : decode code 207 = .ok (.iload 7, 2) := by decide +kernel
theorem d_law_209 : decode code 209 = .ok (.invokevirtual 34, 3) := by decide +kernel
theorem d_law_212 : decode code 212 = .ok (.aload_n 2, 1) := by decide +kernel
theorem d_law_213 : decode code 213 = .ok (.iload 7, 2) := by decide +kernel
theorem d_law_215 : decode code 215 = .ok (.lload 10, 2) := by decide +kernel
theorem d_law_217 : decode code 217 = .ok (.lastore, 1) := by decide +kernel
theorem d_law_218 : decode code 218 = .ok (.aload_n 2, 1) := by decide +kernel
theorem d_law_219 : decode code 219 = .ok (.iload 6, 2) := by decide +kernel
theorem d_law_221 : decode code 221 = .ok (.lload 8, 2) := by decide +kernel
theorem d_law_223 : decode code 223 = .ok (.invokestatic 38, 3) := by decide +kernel
theorem d_law_226 : decode code 226 = .ok (.lastore, 1) := by decide +kernel
theorem d_law_227 : decode code 227 = .ok (.aload_n 3, 1) := by decide +kernel
theorem d_law_228 : decode code 228 = .ok (.iload 6, 2) := by decide +kernel
theorem d_law_230 : decode code 230 = .ok (.lload 10, 2) := by decide +kernel
theorem d_law_232 : decode code 232 = .ok (.invokestatic 44, 3) := by decide +kernel
theorem d_law_235 : decode code 235 = .ok (.lastore, 1) := by decide +kernel
theorem d_law_236 : decode code 236 = .ok (.goto 62, 3) := by decide +kernel
theorem d_law_239 : decode code 239 = .ok (.aload_n 2, 1) := by decide +kernel
theorem d_law_240 : decode code 240 = .ok (.iload 6, 2) := by decide +kernel
theorem d_law_242 : decode code 242 = .ok (.dup2, 1) := by decide +kernel
theorem d_law_243 : decode code 243 = .ok (.laload, 1) := by decide +kernel
theorem d_law_244 : decode code 244 = .ok (.aload_n 3, 1) := by decide +kernel
theorem d_law_245 : decode code 245 = .ok (.iload 6, 2) := by decide +kernel
theorem d_law_247 : decode code 247 = .ok (.laload, 1) := by decide +kernel
theorem d_law_248 : decode code 248 = .ok (.ladd, 1) := by decide +kernel
theorem d_law_249 : decode code 249 = .ok (.lastore, 1) := by decide +kernel
theorem d_law_250 : decode code 250 = .ok (.aload_n 1, 1) := by decide +kernel
theorem d_law_251 : decode code 251 = .ok (.iload 6, 2) := by decide +kernel
theorem d_law_253 : decode code 253 = .ok (.invokevirtual 47, 3) := by decide +kernel
theorem d_law_256 : decode code 256 = .ok (.aload_n 2, 1) := by decide +kernel
theorem d_law_257 : decode code 257 = .ok (.iload 6, 2) := by decide +kernel
theorem d_law_259 : decode code 259 = .ok (.laload, 1) := by decide +kernel
theorem d_law_260 : decode code 260 = .ok (.invokestatic 51, 3) := by decide +kernel
theorem d_law_263 : decode code 263 = .ok (.if_icmp .eq 35, 3) := by decide +kernel
theorem d_law_266 : decode code 266 = .ok (.iconst 0, 1) := by decide +kernel
theorem d_law_267 : decode code 267 = .ok (.ireturn, 1) := by decide +kernel
theorem d_law_268 : decode code 268 = .ok (.aload_n 2, 1) := by decide +kernel
theorem d_law_269 : decode code 269 = .ok (.iload 6, 2) := by decide +kernel
theorem d_law_271 : decode code 271 = .ok (.dup2, 1) := by decide +kernel
theorem d_law_272 : decode code 272 = .ok (.laload, 1) := by decide +kernel
theorem d_law_273 : decode code 273 = .ok (.aload_n 3, 1) := by decide +kernel
theorem d_law_274 : decode code 274 = .ok (.iload 6, 2) := by decide +kernel
theorem d_law_276 : decode code 276 = .ok (.laload, 1) := by decide +kernel
theorem d_law_277 : decode code 277 = .ok (.ladd, 1) := by decide +kernel
theorem d_law_278 : decode code 278 = .ok (.lastore, 1) := by decide +kernel
theorem d_law_279 : decode code 279 = .ok (.aload_n 1, 1) := by decide +kernel
theorem d_law_280 : decode code 280 = .ok (.iload 6, 2) := by decide +kernel
theorem d_law_282 : decode code 282 = .ok (.invokevirtual 55, 3) := by decide +kernel
theorem d_law_285 : decode code 285 = .ok (.aload_n 2, 1) := by decide +kernel
theorem d_law_286 : decode code 286 = .ok (.iload 6, 2) := by decide +kernel
theorem d_law_288 : decode code 288 = .ok (.laload, 1) := by decide +kernel
theorem d_law_289 : decode code 289 = .ok (.invokestatic 38, 3) := by decide +kernel
theorem d_law_292 : decode code 292 = .ok (.lcmp, 1) := by decide +kernel
theorem d_law_293 : decode code 293 = .ok (.ifCond .eq 5, 3) := by decide +kernel
theorem d_law_296 : decode code 296 = .ok (.iconst 0, 1) := by decide +kernel
theorem d_law_297 : decode code 297 = .ok (.ireturn, 1) := by decide +kernel
theorem d_law_298 : decode code 298 = .ok (.iinc 4 1, 3) := by decide +kernel
theorem d_law_301 : decode code 301 = .ok (.goto (-238), 3) := by decide +kernel
theorem d_law_304 : decode code 304 = .ok (.iconst 1, 1) := by decide +kernel
theorem d_law_305 : decode code 305 = .ok (.ireturn, 1) := by decide +kernel
end
section
/-! the plain side: the two mixers, the JDK's bit count, and that it counts the bits. uN rows: out of kit/laws/BITS -/
def us (x : Int64) (k : Int32) : Int64 := (x.toUInt64 >>> (k.toInt64.toUInt64 &&& Int64.toUInt64 63)).toInt64
def fm_64 (z : Int64) : Int64 :=
  let a := (z ^^^ us z 30) * (-4658895280553007687)
  let b := (a ^^^ us a 27) * (-7723592293110705685)
  b ^^^ us b 31
def fm_32 (z : Int64) : Int32 :=
  let a := (z ^^^ us z 33) * 7109453100751455733
  (us ((a ^^^ us a 28) * (-3808689974395783757)) 32).toInt32
def fm_x (z : Int64) : Int64 :=
  let a := (z ^^^ us z 33) * (-49064778989728563)
  let b := (a ^^^ us a 33) * (-4265267296055464877)
  (b ^^^ us b 33) ||| 1
def fm_bc (x : Int64) : Int32 :=
  let a := x - (us x 1 &&& 6148914691236517205)
  let b := (a &&& 3689348814741910323) + (us a 2 &&& 3689348814741910323)
  let c := (b + us b 4) &&& 1085102592571150095
  let d := c + us c 8
  let e := d + us d 16
  let f := e + us e 32
  f.toInt32 &&& 127
def fm_g (z : Int64) : Int64 := if (24 : Int32) ≤ fm_bc (fm_x z ^^^ us (fm_x z) 1) then fm_x z else fm_x z ^^^ (-6148914691236517206)
def uN (x : Int64) : Nat := x.toUInt64.toNat
theorem uN_lt (x : Int64) : uN x < 18446744073709551616 := x.toUInt64.toNat_lt
theorem uN_inj {x y : Int64} (h : uN x = uN y) : x = y := congrArg UInt64.toInt64 (UInt64.toNat_inj.mp h)
theorem uN_add (x y : Int64) : uN (x + y) = (uN x + uN y) % 18446744073709551616 := by
  show (x.toUInt64 + y.toUInt64).toNat = _
  exact UInt64.toNat_add _ _
theorem uN_shr (x : Int64) (s : UInt64) : uN (x.toUInt64 >>> s).toInt64 = uN x / 2 ^ (s.toNat % 64) := by
  show (x.toUInt64 >>> s).toNat = _
  rw [UInt64.toNat_shiftRight, Nat.shiftRight_eq_div_pow]
  rfl
theorem uN_sk (x : Int64) {k : Nat} (hk : k < 64) : uN (us x (nI k)) = uN x / 2 ^ k := by
  have h : ((nI k).toInt64.toUInt64 &&& Int64.toUInt64 63).toNat % 64 = k := by
    rw [nI_l (by omega), UInt64.toNat_and]
    have e : (lN k).toUInt64.toNat = k % 2 ^ 64 := rfl
    have e2 : (Int64.toUInt64 63).toNat = 2 ^ 6 - 1 := by decide
    rw [e, e2, Nat.and_two_pow_sub_one_eq_mod]
    omega
  unfold us
  rw [uN_shr, h]
theorem uN_and (x y : Int64) : uN (x &&& y) = uN x &&& uN y := UInt64.toNat_and _ _
theorem uN_xor2 (x y : Int64) : uN (x ^^^ y) = uN x ^^^ uN y := UInt64.toNat_xor _ _
theorem uN_sub {x y : Int64} (h : uN y ≤ uN x) : uN (x - y) = uN x - uN y := by
  show (x.toUInt64 - y.toUInt64).toNat = _
  exact UInt64.toNat_sub_of_le _ _ (UInt64.le_iff_toNat_le.mpr h)
-- bits of a number, from below
def ct : Nat → Nat → Nat
  | 0, _ => 0
  | n + 1, x => x % 2 + ct n (x / 2)
theorem ct_up : ∀ (n x : Nat), ct (n + 1) x = ct n x + x / 2 ^ n % 2
  | 0, x => by simp [ct]
  | n + 1, x => by
    have h := ct_up n (x / 2)
    have e : x / 2 / 2 ^ n = x / 2 ^ (n + 1) := by rw [Nat.div_div_eq_div_mul, Nat.pow_succ, Nat.mul_comm]
    rw [e] at h
    show x % 2 + ct (n + 1) (x / 2) = x % 2 + ct n (x / 2) + x / 2 ^ (n + 1) % 2
    omega
theorem ct_le : ∀ (n x : Nat), ct n x ≤ n
  | 0, x => by simp [ct]
  | n + 1, x => by
    have h := ct_le n (x / 2)
    show x % 2 + ct n (x / 2) ≤ n + 1
    omega
theorem ct_cat (n b y : Nat) (hb : b < 256) : ct (n + 8) (b + 256 * y) = ct 8 b + ct n y := by
  have e : (b + 256 * y) / 2 / 2 / 2 / 2 / 2 / 2 / 2 / 2 = y := by omega
  simp only [ct, e]
  omega
-- masks: n times the byte m
def mk8 (m : Nat) : Nat → Nat
  | 0 => 0
  | n + 1 => m + 256 * mk8 m n
theorem and_cat {a b c d : Nat} (ha : a < 256) (hc : c < 256) : (a + 256 * b) &&& (c + 256 * d) = (a &&& c) + 256 * (b &&& d) := by
  have h2 : a &&& c < 2 ^ 8 := Nat.lt_of_le_of_lt Nat.and_le_left ha
  apply Nat.eq_of_testBit_eq
  intro i
  rw [Nat.add_comm a, Nat.add_comm c, Nat.add_comm (a &&& c), Nat.testBit_and]
  rw [show (256 : Nat) = 2 ^ 8 from rfl, Nat.testBit_two_pow_mul_add _ ha, Nat.testBit_two_pow_mul_add _ hc, Nat.testBit_two_pow_mul_add _ h2]
  by_cases hi : i < 8
  · simp [hi, Nat.testBit_and]
  · simp [hi, Nat.testBit_and]
def P1 (n x : Nat) : Nat := x - (x / 2 &&& mk8 85 n)
def P2 (n x : Nat) : Nat := (x &&& mk8 51 n) + (x / 4 &&& mk8 51 n)
def P3 (n x : Nat) : Nat := (x + x / 16) &&& mk8 15 n
def f1 (a : Nat) : Nat := a - (a / 2 &&& 85)
def f2 (a : Nat) : Nat := (a &&& 51) + (a / 4 &&& 51)
theorem f1_top : ∀ a, a < 256 → ∀ t, t < 2 → (a / 2 + 128 * t) &&& 85 = a / 2 &&& 85 := by decide +kernel
theorem f2_top : ∀ a, a < 256 → ∀ t, t < 4 → (a / 4 + 64 * t) &&& 51 = a / 4 &&& 51 := by decide +kernel
theorem f3_top : ∀ a, a < 137 → ∀ t, t < 5 → (a + 16 * t) &&& 15 = a % 16 := by decide +kernel
theorem f12 : ∀ b, b < 256 → f1 b < 256 ∧ f2 (f1 b) ≤ 68 ∧ f2 (f1 b) % 16 ≤ 4 ∧ (f2 (f1 b) + f2 (f1 b) / 16) % 16 = ct 8 b := by decide +kernel
theorem P1_cat {n a y : Nat} (ha : a < 256) : P1 (n + 1) (a + 256 * y) = f1 a + 256 * P1 n y := by
  have e : (a + 256 * y) / 2 = (a / 2 + 128 * (y % 2)) + 256 * (y / 2) := by omega
  have h1 : a / 2 &&& 85 ≤ a / 2 := Nat.and_le_left
  have h2 : y / 2 &&& mk8 85 n ≤ y / 2 := Nat.and_le_left
  unfold P1 f1
  rw [e, show mk8 85 (n + 1) = 85 + 256 * mk8 85 n from rfl, and_cat (by omega) (by omega), f1_top a ha _ (by omega)]
  omega
theorem P2_cat {n a y : Nat} (ha : a < 256) : P2 (n + 1) (a + 256 * y) = f2 a + 256 * P2 n y := by
  have e : (a + 256 * y) / 4 = (a / 4 + 64 * (y % 4)) + 256 * (y / 4) := by omega
  unfold P2 f2
  rw [e, show mk8 51 (n + 1) = 51 + 256 * mk8 51 n from rfl, and_cat ha (by omega), and_cat (by omega) (by omega), f2_top a ha _ (by omega)]
  omega
theorem P3_cat {n a y : Nat} (ha : a ≤ 68) (hy : y % 16 ≤ 4) : P3 (n + 1) (a + 256 * y) = (a + a / 16) % 16 + 256 * P3 n y := by
  have e : (a + 256 * y) + (a + 256 * y) / 16 = (a + a / 16 + 16 * (y % 16)) + 256 * (y + y / 16) := by omega
  unfold P3
  rw [e, show mk8 15 (n + 1) = 15 + 256 * mk8 15 n from rfl, and_cat (by omega) (by omega), f3_top (a + a / 16) (by omega) _ (by omega)]
-- all three steps, byte by byte
def QQ (n x : Nat) : Nat := P3 n (P2 n (P1 n x))
theorem P12_low : ∀ (n x : Nat), x < 256 ^ n → P2 n (P1 n x) % 16 ≤ 4
  | 0, x, h => by
    have hx : x = 0 := by simpa using h
    subst hx
    decide
  | n + 1, x, h => by
    have e : x = x % 256 + 256 * (x / 256) := by omega
    have hb : x % 256 < 256 := Nat.mod_lt _ (by decide)
    obtain ⟨g1, g2, g3, -⟩ := f12 _ hb
    rw [e, P1_cat hb, P2_cat g1]
    omega
theorem QQ_cat {n b x : Nat} (hb : b < 256) (hx : x < 256 ^ n) : QQ (n + 1) (b + 256 * x) = ct 8 b + 256 * QQ n x := by
  obtain ⟨g1, g2, g3, g4⟩ := f12 _ hb
  unfold QQ
  rw [P1_cat hb, P2_cat g1, P3_cat g2 (P12_low n x hx), g4]
theorem QQ_8 {x : Nat} (hx : x < 18446744073709551616) : ∃ p0 p1 p2 p3 p4 p5 p6 p7 : Nat, p0 ≤ 8 ∧ p1 ≤ 8 ∧ p2 ≤ 8 ∧ p3 ≤ 8 ∧ p4 ≤ 8 ∧ p5 ≤ 8 ∧ p6 ≤ 8 ∧ p7 ≤ 8 ∧ QQ 8 x = p0 + 256 * (p1 + 256 * (p2 + 256 * (p3 + 256 * (p4 + 256 * (p5 + 256 * (p6 + 256 * p7)))))) ∧ ct 64 x = p0 + p1 + p2 + p3 + p4 + p5 + p6 + p7 := by
  have step : ∀ (n m y : Nat), y < 256 ^ (n + 1) → ∃ b z : Nat, b ≤ 8 ∧ z < 256 ^ n ∧ QQ (n + 1) y = b + 256 * QQ n z ∧ ct (m + 8) y = b + ct m z := by
    intro n m y hy
    have hb : y % 256 < 256 := Nat.mod_lt _ (by decide)
    have hz : y / 256 < 256 ^ n := by
      rw [Nat.pow_succ] at hy
      exact Nat.div_lt_of_lt_mul (by rw [Nat.mul_comm]; exact hy)
    have e : y = y % 256 + 256 * (y / 256) := by omega
    have h1 := QQ_cat hb hz
    have h2 := ct_cat m (y % 256) (y / 256) hb
    rw [← e] at h1 h2
    exact ⟨ct 8 (y % 256), y / 256, ct_le 8 _, hz, h1, h2⟩
  obtain ⟨p0, x1, l0, z1, e0, c0⟩ := step 7 56 x hx
  obtain ⟨p1, x2, l1, z2, e1, c1⟩ := step 6 48 x1 z1
  obtain ⟨p2, x3, l2, z3, e2, c2⟩ := step 5 40 x2 z2
  obtain ⟨p3, x4, l3, z4, e3, c3⟩ := step 4 32 x3 z3
  obtain ⟨p4, x5, l4, z5, e4, c4⟩ := step 3 24 x4 z4
  obtain ⟨p5, x6, l5, z6, e5, c5⟩ := step 2 16 x5 z5
  obtain ⟨p6, x7, l6, z7, e6, c6⟩ := step 1 8 x6 z6
  obtain ⟨p7, x8, l7, z8, e7, c7⟩ := step 0 0 x7 z7
  have hx8 : x8 = 0 := by simpa using z8
  subst hx8
  have q0 : QQ 0 0 = 0 := by decide
  have r0 : ct 0 0 = 0 := rfl
  refine ⟨p0, p1, p2, p3, p4, p5, p6, p7, l0, l1, l2, l3, l4, l5, l6, l7, ?_, ?_⟩
  · rw [e0, e1, e2, e3, e4, e5, e6, e7, q0]
    omega
  · have c0 : ct 64 x = p0 + ct 56 x1 := c0
    have c1 : ct 56 x1 = p1 + ct 48 x2 := c1
    have c2 : ct 48 x2 = p2 + ct 40 x3 := c2
    have c3 : ct 40 x3 = p3 + ct 32 x4 := c3
    have c4 : ct 32 x4 = p4 + ct 24 x5 := c4
    have c5 : ct 24 x5 = p5 + ct 16 x6 := c5
    have c6 : ct 16 x6 = p6 + ct 8 x7 := c6
    have c7 : ct 8 x7 = p7 + ct 0 0 := c7
    omega
theorem fold_8 {q p0 p1 p2 p3 p4 p5 p6 p7 : Nat} (l0 : p0 ≤ 8) (l1 : p1 ≤ 8) (l2 : p2 ≤ 8) (l3 : p3 ≤ 8) (l4 : p4 ≤ 8) (l5 : p5 ≤ 8) (l6 : p6 ≤ 8) (l7 : p7 ≤ 8)
    (hq : q = p0 + 256 * (p1 + 256 * (p2 + 256 * (p3 + 256 * (p4 + 256 * (p5 + 256 * (p6 + 256 * p7))))))) :
    ∃ a b c : Nat, a = q + q / 256 ∧ b = a + a / 65536 ∧ c = b + b / 4294967296 ∧ a < 18446744073709551616 ∧ b < 18446744073709551616 ∧ c < 18446744073709551616 ∧ c % 4294967296 % 128 = p0 + p1 + p2 + p3 + p4 + p5 + p6 + p7 := by
  obtain ⟨t5, e5⟩ : ∃ t, t = p6 + 256 * p7 := ⟨_, rfl⟩
  rw [← e5] at hq
  obtain ⟨t4, e4⟩ : ∃ t, t = p5 + 256 * t5 := ⟨_, rfl⟩
  rw [← e4] at hq
  obtain ⟨t3, e3⟩ : ∃ t, t = p4 + 256 * t4 := ⟨_, rfl⟩
  rw [← e3] at hq
  obtain ⟨t2, e2⟩ : ∃ t, t = p3 + 256 * t3 := ⟨_, rfl⟩
  rw [← e2] at hq
  obtain ⟨t1, e1⟩ : ∃ t, t = p2 + 256 * t2 := ⟨_, rfl⟩
  rw [← e1] at hq
  obtain ⟨t0, e0⟩ : ∃ t, t = p1 + 256 * t1 := ⟨_, rfl⟩
  rw [← e0] at hq
  have hqb : q ≤ 1000000000000000000 := by
    have b5 : t5 ≤ 2056 := by clear hq e4 e3 e2 e1 e0; omega
    have b4 : t4 ≤ 526344 := by clear hq e5 e3 e2 e1 e0; omega
    have b3 : t3 ≤ 134744072 := by clear hq e5 e4 e2 e1 e0; omega
    have b2 : t2 ≤ 34494482440 := by clear hq e5 e4 e3 e1 e0; omega
    have b1 : t1 ≤ 8830587504648 := by clear hq e5 e4 e3 e2 e0; omega
    have b0 : t0 ≤ 2260630401189896 := by clear hq e5 e4 e3 e2 e1; omega
    clear e5 e4 e3 e2 e1 e0
    omega
  have h1 : q / 256 = t0 := by clear e5 e4 e3 e2 e1 e0; omega
  obtain ⟨a, ha⟩ : ∃ a, a = q + q / 256 := ⟨_, rfl⟩
  have ha1 : a = q + t0 := by rw [ha, h1]
  have h2 : a / 65536 = t1 + t2 := by clear ha e5 e4 e3 e2 h1; omega
  obtain ⟨b, hb⟩ : ∃ b, b = a + a / 65536 := ⟨_, rfl⟩
  have hb1 : b = q + t0 + (t1 + t2) := by rw [hb, h2, ha1]
  have hb2 : b = (p0 + p1 + p2 + p3) + 256 * (t0 + t1 + (t2 + t3)) := by clear hb ha h1 h2 e5 e4 e3; omega
  have hb3 : t0 + t1 + (t2 + t3) = (p1 + p2 + p3 + p4) + 256 * (t1 + t2 + (t3 + t4)) := by clear hb hb1 hb2 ha ha1 h1 h2 hq hqb e5 e4; omega
  have hb4 : t1 + t2 + (t3 + t4) = (p2 + p3 + p4 + p5) + 256 * (t2 + t3 + (t4 + t5)) := by clear hb hb1 hb2 hb3 ha ha1 h1 h2 hq hqb e5; omega
  have hb5 : t2 + t3 + (t4 + t5) = (p3 + p4 + p5 + p6) + 256 * (t3 + t4 + (t5 + p7)) := by clear hb hb1 hb2 hb3 hb4 ha ha1 h1 h2 hq hqb; omega
  have hb6 : t3 + t4 + (t5 + p7) = (p4 + p5 + p6 + p7) + 256 * (t4 + t5 + p7) := by clear hb hb1 hb2 hb3 hb4 hb5 ha ha1 h1 h2 hq hqb; omega
  have h3 : b / 4294967296 = t3 + t4 + (t5 + p7) := by
    generalize t0 + t1 + (t2 + t3) = v1 at hb2 hb3
    generalize t1 + t2 + (t3 + t4) = v2 at hb3 hb4
    generalize t2 + t3 + (t4 + t5) = v3 at hb4 hb5
    generalize t3 + t4 + (t5 + p7) = v4 at hb5 hb6 ⊢
    clear hb hb1 ha ha1 h1 h2 hq hqb e5 e4 e3 e2 e1 e0 hb6
    omega
  obtain ⟨c, hc⟩ : ∃ c, c = b + b / 4294967296 := ⟨_, rfl⟩
  have hc1 : c = b + (t3 + t4 + (t5 + p7)) := by rw [hc, h3]
  have hc2 : c = (p0 + p1 + p2 + p3 + p4 + p5 + p6 + p7) + 256 * (t0 + t1 + (t2 + t3) + (t4 + t5 + p7)) := by
    clear hc hb hb1 hb3 hb4 hb5 ha ha1 h1 h2 h3 hq hqb e5 e4 e3 e2 e1 e0
    omega
  refine ⟨a, b, c, ha, hb, hc, ?_, ?_, ?_, ?_⟩
  · clear hb hb1 hb2 hb3 hb4 hb5 hb6 hc hc1 hc2 h3 h2 e5 e4 e3 e2 e1 e0
    omega
  · have g := Nat.div_le_self a 65536
    clear hb1 hb2 hb3 hb4 hb5 hb6 hc hc1 hc2 h3 h2 e5 e4 e3 e2 e1 e0
    omega
  · have g := Nat.div_le_self a 65536
    have g2 := Nat.div_le_self b 4294967296
    clear hb1 hb2 hb3 hb4 hb5 hb6 hc1 hc2 h3 h2 e5 e4 e3 e2 e1 e0
    omega
  · rw [Nat.mod_mod_of_dvd _ (by decide : 128 ∣ 4294967296), hc2]
    clear hc hc1 hc2 hb hb1 hb2 hb3 hb4 hb5 hb6 ha ha1 h1 h2 h3 hq hqb e5 e4 e3 e2 e1 e0
    omega
theorem bc_ct (x : Int64) : fm_bc x = nI (ct 64 (uN x)) := by
  have hx := uN_lt x
  obtain ⟨p0, p1, p2, p3, p4, p5, p6, p7, l0, l1, l2, l3, l4, l5, l6, l7, hq, hc⟩ := QQ_8 hx
  obtain ⟨a, b, c, ha, hb, hc2, ga, gb, hc3, hc4⟩ := fold_8 l0 l1 l2 l3 l4 l5 l6 l7 hq
  have k1 : uN 6148914691236517205 = mk8 85 8 := by decide +kernel
  have k2 : uN 3689348814741910323 = mk8 51 8 := by decide +kernel
  have k3 : uN 1085102592571150095 = mk8 15 8 := by decide +kernel
  have s1 : uN (x - (us x 1 &&& 6148914691236517205)) = P1 8 (uN x) := by
    have e : uN (us x 1 &&& 6148914691236517205) = uN x / 2 &&& mk8 85 8 := by
      rw [uN_and, k1, show (1 : Int32) = nI 1 from rfl, uN_sk x (by decide)]
    have h : uN x / 2 &&& mk8 85 8 ≤ uN x / 2 := Nat.and_le_left
    rw [uN_sub (by rw [e]; omega), e]
    rfl
  obtain ⟨x1, hx1⟩ : ∃ x1, x1 = x - (us x 1 &&& 6148914691236517205) := ⟨_, rfl⟩
  rw [← hx1] at s1
  have s2 : uN ((x1 &&& 3689348814741910323) + (us x1 2 &&& 3689348814741910323)) = P2 8 (uN x1) := by
    have e : uN (us x1 2 &&& 3689348814741910323) = uN x1 / 4 &&& mk8 51 8 := by
      rw [uN_and, k2, show (2 : Int32) = nI 2 from rfl, uN_sk x1 (by decide)]
    have e2 : uN (x1 &&& 3689348814741910323) = uN x1 &&& mk8 51 8 := by rw [uN_and, k2]
    have h : uN x1 / 4 &&& mk8 51 8 ≤ mk8 51 8 := Nat.and_le_right
    have h2 : uN x1 &&& mk8 51 8 ≤ mk8 51 8 := Nat.and_le_right
    have h3 : mk8 51 8 < 4000000000000000000 := by decide
    rw [uN_add, e, e2, Nat.mod_eq_of_lt (by omega)]
    rfl
  obtain ⟨x2, hx2⟩ : ∃ x2, x2 = (x1 &&& 3689348814741910323) + (us x1 2 &&& 3689348814741910323) := ⟨_, rfl⟩
  rw [← hx2] at s2
  have s3 : uN ((x2 + us x2 4) &&& 1085102592571150095) = P3 8 (uN x2) := by
    have e : uN (us x2 4) = uN x2 / 16 := by
      rw [show (4 : Int32) = nI 4 from rfl, uN_sk x2 (by decide)]
    have h : uN x2 ≤ 8000000000000000000 := by
      rw [s2]
      have h : uN x1 / 4 &&& mk8 51 8 ≤ mk8 51 8 := Nat.and_le_right
      have h2 : uN x1 &&& mk8 51 8 ≤ mk8 51 8 := Nat.and_le_right
      have h3 : mk8 51 8 < 4000000000000000000 := by decide
      unfold P2
      omega
    rw [uN_and, k3, uN_add, e, Nat.mod_eq_of_lt (by omega)]
    rfl
  obtain ⟨x3, hx3⟩ : ∃ x3, x3 = (x2 + us x2 4) &&& 1085102592571150095 := ⟨_, rfl⟩
  rw [← hx3] at s3
  have q3 : uN x3 = QQ 8 (uN x) := by rw [s3, s2, s1]; rfl
  rw [← q3] at ha
  have s4 : uN (x3 + us x3 8) = a := by
    rw [uN_add, show (8 : Int32) = nI 8 from rfl, uN_sk x3 (by decide), ha]
    rw [ha] at ga
    exact Nat.mod_eq_of_lt ga
  obtain ⟨x4, hx4⟩ : ∃ x4, x4 = x3 + us x3 8 := ⟨_, rfl⟩
  rw [← hx4] at s4
  have s5 : uN (x4 + us x4 16) = b := by
    rw [uN_add, show (16 : Int32) = nI 16 from rfl, uN_sk x4 (by decide), s4, hb]
    rw [hb] at gb
    exact Nat.mod_eq_of_lt gb
  obtain ⟨x5, hx5⟩ : ∃ x5, x5 = x4 + us x4 16 := ⟨_, rfl⟩
  rw [← hx5] at s5
  have s6 : uN (x5 + us x5 32) = c := by
    rw [uN_add, show (32 : Int32) = nI 32 from rfl, uN_sk x5 (by decide), s5, hc2]
    rw [hc2] at hc3
    exact Nat.mod_eq_of_lt hc3
  obtain ⟨x6, hx6⟩ : ∃ x6, x6 = x5 + us x5 32 := ⟨_, rfl⟩
  rw [← hx6] at s6
  have hbc : fm_bc x = x6.toInt32 &&& 127 := by
    rw [hx6, hx5, hx4, hx3, hx2, hx1]
    rfl
  rw [hbc, pk_and x6.toInt32 7 (by decide)]
  have ht : x6.toInt32.toBitVec.toNat = uN x6 % 4294967296 := by
    show (x6.toBitVec.signExtend 32).toNat = _
    rw [BitVec.signExtend_eq_setWidth_of_le _ (by decide), BitVec.toNat_setWidth]
    rfl
  rw [ht, s6, hc]
  congr 1
-- the law's loop: a bit of z ^ z>>>1 is one just where two neighbours differ
theorem uN_one (x : Int64) : uN (x &&& 1) = uN x % 2 := by
  rw [uN_and]
  exact Nat.and_two_pow_sub_one_eq_mod _ 1
theorem tb_eq (x i : Nat) : x / 2 ^ i % 2 = (x.testBit i).toNat := by
  rw [Nat.testBit_eq_decide_div_mod_eq]
  by_cases h : x / 2 ^ i % 2 = 1
  · simp [h]
  · have : x / 2 ^ i % 2 = 0 := by omega
    simp [this]
theorem xr_bit (n k : Nat) : (n ^^^ n / 2) / 2 ^ k % 2 = if n / 2 ^ k % 2 = n / 2 ^ (k + 1) % 2 then 0 else 1 := by
  have e : (n / 2).testBit k = n.testBit (k + 1) := by rw [Nat.testBit_succ]
  rw [tb_eq, tb_eq, tb_eq, Nat.testBit_xor, e]
  cases n.testBit k <;> cases n.testBit (k + 1) <;> rfl
theorem turn_a (w : Int64) {k : Nat} (hk : k < 63) : (us w (nI k) &&& 1) = (us w (nI (k + 1)) &&& 1) ↔ uN (w ^^^ us w 1) / 2 ^ k % 2 = 0 := by
  rw [uN_xor2, show (1 : Int32) = nI 1 from rfl, uN_sk w (by decide : 1 < 64), show uN w / 2 ^ 1 = uN w / 2 from rfl, xr_bit]
  have e1 : uN (us w (nI k) &&& 1) = uN w / 2 ^ k % 2 := by rw [uN_one, uN_sk w (by omega)]
  have e2 : uN (us w (nI (k + 1)) &&& 1) = uN w / 2 ^ (k + 1) % 2 := by rw [uN_one, uN_sk w (by omega)]
  constructor
  · intro h
    rw [← e1, ← e2, h, if_pos rfl]
  · intro h
    apply uN_inj
    rw [e1, e2]
    by_cases hh : uN w / 2 ^ k % 2 = uN w / 2 ^ (k + 1) % 2
    · exact hh
    · rw [if_neg hh] at h
      cases h
theorem turn_b (w : Int64) : (us w (nI 63) &&& 1) = 0 ↔ uN (w ^^^ us w 1) / 2 ^ 63 % 2 = 0 := by
  rw [uN_xor2, show (1 : Int32) = nI 1 from rfl, uN_sk w (by decide : 1 < 64), show uN w / 2 ^ 1 = uN w / 2 from rfl, xr_bit]
  have e1 : uN (us w (nI 63) &&& 1) = uN w / 2 ^ 63 % 2 := by rw [uN_one, uN_sk w (by omega)]
  have hw := uN_lt w
  have e2 : uN w / 2 ^ (63 + 1) % 2 = 0 := by
    rw [Nat.div_eq_of_lt (by omega)]
  rw [e2]
  constructor
  · intro h
    rw [← e1, h]
    rfl
  · intro h
    apply uN_inj
    rw [e1]
    by_cases hh : uN w / 2 ^ 63 % 2 = 0
    · exact hh
    · rw [if_neg hh] at h
      cases h
end
section
/-! methods that touch no cell: printed by wip/D-90558w/gen5.py -/
theorem tail_ts {c : Cond} {ws : List Cond} {A : Array Value} {s : State} (h : ∀ w ∈ c :: ws, w.before A s = true) : ∀ w ∈ ws, w.before A s = true := fun w hw => h w (List.mem_cons_of_mem _ hw)

-- mix64: the mixer of 64 bits
set_option maxHeartbeats 4000000 in
theorem m_LW_mix64 (l : Launch) (sz : Nat) (z : Int64) : Met l y_LW_mix64 w_LW_mix64 ({ frames := 0, cells := 0, slots := 0, locals := 0 }) (va_Pc [.long z] (fun U => U.heap.size = sz)) (va_Ql (fun (r : Int64) (_ : Unit) => r = fm_64 z) (fun _ _ => True) (fun q => sz ≤ q)) 0 0 (fun q => sz ≤ q) := by
  refine Met.ofW (cc := b_LW_mix64) (maxL := 2) (ret := (some .long)) (by decide) rfl ?_
  intro p e s m args below meth c s₁ B hml hv
  obtain ⟨rfl, hsz⟩ := hv
  have hx := B.exec
  have hb := B.bytes
  have hr := B.returns
  have hts := atoms_spec (ws := w_LW_mix64) B.pre
  have htw := tail_ts hts
  have hown : s.vm.findClass R_law = some m.cls := findClass_of_methodNamed B.named
  have hlocks := B.notSynchronized
  subst hsz
  have hl := lv_entry ([.long z]) (n := 2) (Nat.le_of_ble_eq_true rfl)
  rw [lg_entry_eq]
  generalize (lg_sl ([.long z]) ++ List.replicate (2 - (lg_sl ([.long z])).length) Slot.unset).toArray = ls at hl ⊢
  have hl : lv_has ls 2 [(0, .long z)] := hl
  have hS : va_S (fun q => s.heap.size ≤ q) s.heap s.heap [] := va_S.rf
  refine lv_lload_n hx hb d_LW_mix64_0 rfl (lv_at hl 0 rfl) ?_
  refine lv_lload_n hx hb d_LW_mix64_1 rfl (lv_at hl 0 rfl) ?_
  refine lv_bipush (v := 30) hx hb d_LW_mix64_2 (by decide) ?_
  refine lv_lushr hx hb d_LW_mix64_4 rfl ?_
  refine lv_lxor hx hb d_LW_mix64_5 ?_
  refine lv_ldc2 (v := (-4658895280553007687)) hx hb hown (htw _ (wm 105 rfl)) d_LW_mix64_6 ?_
  refine lv_lmul hx hb d_LW_mix64_9 ?_
  refine lv_topl (fun z1 e1 => ?_)
  refine lv_lstore_n hx hb d_LW_mix64_10 rfl hl (by decide) rfl (fun ls hl => ?_)
  have hl : lv_has ls 2 [(0, .long z1)] := hl
  refine lv_lload_n hx hb d_LW_mix64_11 rfl (lv_at hl 0 rfl) ?_
  refine lv_lload_n hx hb d_LW_mix64_12 rfl (lv_at hl 0 rfl) ?_
  refine lv_bipush (v := 27) hx hb d_LW_mix64_13 (by decide) ?_
  refine lv_lushr hx hb d_LW_mix64_15 rfl ?_
  refine lv_lxor hx hb d_LW_mix64_16 ?_
  refine lv_ldc2 (v := (-7723592293110705685)) hx hb hown (htw _ (wm 106 rfl)) d_LW_mix64_17 ?_
  refine lv_lmul hx hb d_LW_mix64_20 ?_
  refine lv_topl (fun z2 e2 => ?_)
  refine lv_lstore_n hx hb d_LW_mix64_21 rfl hl (by decide) rfl (fun ls hl => ?_)
  have hl : lv_has ls 2 [(0, .long z2)] := hl
  refine lv_lload_n hx hb d_LW_mix64_22 rfl (lv_at hl 0 rfl) ?_
  refine lv_lload_n hx hb d_LW_mix64_23 rfl (lv_at hl 0 rfl) ?_
  refine lv_bipush (v := 31) hx hb d_LW_mix64_24 (by decide) ?_
  refine lv_lushr hx hb d_LW_mix64_26 rfl ?_
  refine lv_lxor hx hb d_LW_mix64_27 ?_
  exact W.lret hx hb hr (fun t ht hW => ⟨⟨_, (), rfl, by subst e2; subst e1; rfl, trivial⟩, hS.F ht⟩) hS.2.2 d_LW_mix64_28

-- mix64: the mixer of 64 bits
set_option maxHeartbeats 4000000 in
theorem m_SR_mix64 (l : Launch) (sz : Nat) (z : Int64) : Met l y_SR_mix64 w_SR_mix64 ({ frames := 0, cells := 0, slots := 0, locals := 0 }) (va_Pc [.long z] (fun U => U.heap.size = sz)) (va_Ql (fun (r : Int64) (_ : Unit) => r = fm_64 z) (fun _ _ => True) (fun q => sz ≤ q)) 0 0 (fun q => sz ≤ q) := by
  refine Met.ofW (cc := b_SR_mix64) (maxL := 2) (ret := (some .long)) (by decide) rfl ?_
  intro p e s m args below meth c s₁ B hml hv
  obtain ⟨rfl, hsz⟩ := hv
  have hx := B.exec
  have hb := B.bytes
  have hr := B.returns
  have hts := atoms_spec (ws := w_SR_mix64) B.pre
  have htw := tail_ts hts
  have hown : s.vm.findClass R_SR = some m.cls := findClass_of_methodNamed B.named
  have hlocks := B.notSynchronized
  subst hsz
  have hl := lv_entry ([.long z]) (n := 2) (Nat.le_of_ble_eq_true rfl)
  rw [lg_entry_eq]
  generalize (lg_sl ([.long z]) ++ List.replicate (2 - (lg_sl ([.long z])).length) Slot.unset).toArray = ls at hl ⊢
  have hl : lv_has ls 2 [(0, .long z)] := hl
  have hS : va_S (fun q => s.heap.size ≤ q) s.heap s.heap [] := va_S.rf
  refine lv_lload_n hx hb d_SR_mix64_0 rfl (lv_at hl 0 rfl) ?_
  refine lv_lload_n hx hb d_SR_mix64_1 rfl (lv_at hl 0 rfl) ?_
  refine lv_bipush (v := 30) hx hb d_SR_mix64_2 (by decide) ?_
  refine lv_lushr hx hb d_SR_mix64_4 rfl ?_
  refine lv_lxor hx hb d_SR_mix64_5 ?_
  refine lv_ldc2 (v := (-4658895280553007687)) hx hb hown (htw _ (wm 78 rfl)) d_SR_mix64_6 ?_
  refine lv_lmul hx hb d_SR_mix64_9 ?_
  refine lv_topl (fun z1 e1 => ?_)
  refine lv_lstore_n hx hb d_SR_mix64_10 rfl hl (by decide) rfl (fun ls hl => ?_)
  have hl : lv_has ls 2 [(0, .long z1)] := hl
  refine lv_lload_n hx hb d_SR_mix64_11 rfl (lv_at hl 0 rfl) ?_
  refine lv_lload_n hx hb d_SR_mix64_12 rfl (lv_at hl 0 rfl) ?_
  refine lv_bipush (v := 27) hx hb d_SR_mix64_13 (by decide) ?_
  refine lv_lushr hx hb d_SR_mix64_15 rfl ?_
  refine lv_lxor hx hb d_SR_mix64_16 ?_
  refine lv_ldc2 (v := (-7723592293110705685)) hx hb hown (htw _ (wm 79 rfl)) d_SR_mix64_17 ?_
  refine lv_lmul hx hb d_SR_mix64_20 ?_
  refine lv_topl (fun z2 e2 => ?_)
  refine lv_lstore_n hx hb d_SR_mix64_21 rfl hl (by decide) rfl (fun ls hl => ?_)
  have hl : lv_has ls 2 [(0, .long z2)] := hl
  refine lv_lload_n hx hb d_SR_mix64_22 rfl (lv_at hl 0 rfl) ?_
  refine lv_lload_n hx hb d_SR_mix64_23 rfl (lv_at hl 0 rfl) ?_
  refine lv_bipush (v := 31) hx hb d_SR_mix64_24 (by decide) ?_
  refine lv_lushr hx hb d_SR_mix64_26 rfl ?_
  refine lv_lxor hx hb d_SR_mix64_27 ?_
  exact W.lret hx hb hr (fun t ht hW => ⟨⟨_, (), rfl, by subst e2; subst e1; rfl, trivial⟩, hS.F ht⟩) hS.2.2 d_SR_mix64_28

-- mix32: the mixer of 32 bits
set_option maxHeartbeats 4000000 in
theorem m_LW_mix32 (l : Launch) (sz : Nat) (z : Int64) : Met l y_LW_mix32 w_LW_mix32 ({ frames := 0, cells := 0, slots := 0, locals := 0 }) (va_Pc [.long z] (fun U => U.heap.size = sz)) (va_Qi (fun (r : Int32) (_ : Unit) => r = fm_32 z) (fun _ _ => True) (fun q => sz ≤ q)) 0 0 (fun q => sz ≤ q) := by
  refine Met.ofW (cc := b_LW_mix32) (maxL := 2) (ret := (some .int)) (by decide) rfl ?_
  intro p e s m args below meth c s₁ B hml hv
  obtain ⟨rfl, hsz⟩ := hv
  have hx := B.exec
  have hb := B.bytes
  have hr := B.returns
  have hts := atoms_spec (ws := w_LW_mix32) B.pre
  have htw := tail_ts hts
  have hown : s.vm.findClass R_law = some m.cls := findClass_of_methodNamed B.named
  have hlocks := B.notSynchronized
  subst hsz
  have hl := lv_entry ([.long z]) (n := 2) (Nat.le_of_ble_eq_true rfl)
  rw [lg_entry_eq]
  generalize (lg_sl ([.long z]) ++ List.replicate (2 - (lg_sl ([.long z])).length) Slot.unset).toArray = ls at hl ⊢
  have hl : lv_has ls 2 [(0, .long z)] := hl
  have hS : va_S (fun q => s.heap.size ≤ q) s.heap s.heap [] := va_S.rf
  refine lv_lload_n hx hb d_LW_mix32_0 rfl (lv_at hl 0 rfl) ?_
  refine lv_lload_n hx hb d_LW_mix32_1 rfl (lv_at hl 0 rfl) ?_
  refine lv_bipush (v := 33) hx hb d_LW_mix32_2 (by decide) ?_
  refine lv_lushr hx hb d_LW_mix32_4 rfl ?_
  refine lv_lxor hx hb d_LW_mix32_5 ?_
  refine lv_ldc2 (v := (7109453100751455733)) hx hb hown (htw _ (wm 110 rfl)) d_LW_mix32_6 ?_
  refine lv_lmul hx hb d_LW_mix32_9 ?_
  refine lv_topl (fun z1 e1 => ?_)
  refine lv_lstore_n hx hb d_LW_mix32_10 rfl hl (by decide) rfl (fun ls hl => ?_)
  have hl : lv_has ls 2 [(0, .long z1)] := hl
  refine lv_lload_n hx hb d_LW_mix32_11 rfl (lv_at hl 0 rfl) ?_
  refine lv_lload_n hx hb d_LW_mix32_12 rfl (lv_at hl 0 rfl) ?_
  refine lv_bipush (v := 28) hx hb d_LW_mix32_13 (by decide) ?_
  refine lv_lushr hx hb d_LW_mix32_15 rfl ?_
  refine lv_lxor hx hb d_LW_mix32_16 ?_
  refine lv_ldc2 (v := (-3808689974395783757)) hx hb hown (htw _ (wm 111 rfl)) d_LW_mix32_17 ?_
  refine lv_lmul hx hb d_LW_mix32_20 ?_
  refine lv_bipush (v := 32) hx hb d_LW_mix32_21 (by decide) ?_
  refine lv_lushr hx hb d_LW_mix32_23 rfl ?_
  refine lv_l2i hx hb d_LW_mix32_24 rfl ?_
  exact W.iret hx hb hr (fun t ht hW => ⟨⟨_, (), rfl, by subst e1; rfl, trivial⟩, hS.F ht⟩) hS.2.2 d_LW_mix32_25

-- mix32: the mixer of 32 bits
set_option maxHeartbeats 4000000 in
theorem m_SR_mix32 (l : Launch) (sz : Nat) (z : Int64) : Met l y_SR_mix32 w_SR_mix32 ({ frames := 0, cells := 0, slots := 0, locals := 0 }) (va_Pc [.long z] (fun U => U.heap.size = sz)) (va_Qi (fun (r : Int32) (_ : Unit) => r = fm_32 z) (fun _ _ => True) (fun q => sz ≤ q)) 0 0 (fun q => sz ≤ q) := by
  refine Met.ofW (cc := b_SR_mix32) (maxL := 2) (ret := (some .int)) (by decide) rfl ?_
  intro p e s m args below meth c s₁ B hml hv
  obtain ⟨rfl, hsz⟩ := hv
  have hx := B.exec
  have hb := B.bytes
  have hr := B.returns
  have hts := atoms_spec (ws := w_SR_mix32) B.pre
  have htw := tail_ts hts
  have hown : s.vm.findClass R_SR = some m.cls := findClass_of_methodNamed B.named
  have hlocks := B.notSynchronized
  subst hsz
  have hl := lv_entry ([.long z]) (n := 2) (Nat.le_of_ble_eq_true rfl)
  rw [lg_entry_eq]
  generalize (lg_sl ([.long z]) ++ List.replicate (2 - (lg_sl ([.long z])).length) Slot.unset).toArray = ls at hl ⊢
  have hl : lv_has ls 2 [(0, .long z)] := hl
  have hS : va_S (fun q => s.heap.size ≤ q) s.heap s.heap [] := va_S.rf
  refine lv_lload_n hx hb d_SR_mix32_0 rfl (lv_at hl 0 rfl) ?_
  refine lv_lload_n hx hb d_SR_mix32_1 rfl (lv_at hl 0 rfl) ?_
  refine lv_bipush (v := 33) hx hb d_SR_mix32_2 (by decide) ?_
  refine lv_lushr hx hb d_SR_mix32_4 rfl ?_
  refine lv_lxor hx hb d_SR_mix32_5 ?_
  refine lv_ldc2 (v := (7109453100751455733)) hx hb hown (htw _ (wm 65 rfl)) d_SR_mix32_6 ?_
  refine lv_lmul hx hb d_SR_mix32_9 ?_
  refine lv_topl (fun z1 e1 => ?_)
  refine lv_lstore_n hx hb d_SR_mix32_10 rfl hl (by decide) rfl (fun ls hl => ?_)
  have hl : lv_has ls 2 [(0, .long z1)] := hl
  refine lv_lload_n hx hb d_SR_mix32_11 rfl (lv_at hl 0 rfl) ?_
  refine lv_lload_n hx hb d_SR_mix32_12 rfl (lv_at hl 0 rfl) ?_
  refine lv_bipush (v := 28) hx hb d_SR_mix32_13 (by decide) ?_
  refine lv_lushr hx hb d_SR_mix32_15 rfl ?_
  refine lv_lxor hx hb d_SR_mix32_16 ?_
  refine lv_ldc2 (v := (-3808689974395783757)) hx hb hown (htw _ (wm 66 rfl)) d_SR_mix32_17 ?_
  refine lv_lmul hx hb d_SR_mix32_20 ?_
  refine lv_bipush (v := 32) hx hb d_SR_mix32_21 (by decide) ?_
  refine lv_lushr hx hb d_SR_mix32_23 rfl ?_
  refine lv_l2i hx hb d_SR_mix32_24 rfl ?_
  exact W.iret hx hb hr (fun t ht hW => ⟨⟨_, (), rfl, by subst e1; rfl, trivial⟩, hS.F ht⟩) hS.2.2 d_SR_mix32_25

-- Long.bitCount: its own formula
set_option maxHeartbeats 4000000 in
theorem m_LG_bit (l : Launch) (sz : Nat) (z : Int64) : Met l y_LG_bit w_LG_bit ({ frames := 0, cells := 0, slots := 0, locals := 0 }) (va_Pc [.long z] (fun U => U.heap.size = sz)) (va_Qi (fun (r : Int32) (_ : Unit) => r = fm_bc z) (fun _ _ => True) (fun q => sz ≤ q)) 0 0 (fun q => sz ≤ q) := by
  refine Met.ofW (cc := b_LG_bit) (maxL := 2) (ret := (some .int)) (by decide) rfl ?_
  intro p e s m args below meth c s₁ B hml hv
  obtain ⟨rfl, hsz⟩ := hv
  have hx := B.exec
  have hb := B.bytes
  have hr := B.returns
  have hts := atoms_spec (ws := w_LG_bit) B.pre
  have htw := tail_ts hts
  have hown : s.vm.findClass R_LG = some m.cls := findClass_of_methodNamed B.named
  have hlocks := B.notSynchronized
  subst hsz
  have hl := lv_entry ([.long z]) (n := 2) (Nat.le_of_ble_eq_true rfl)
  rw [lg_entry_eq]
  generalize (lg_sl ([.long z]) ++ List.replicate (2 - (lg_sl ([.long z])).length) Slot.unset).toArray = ls at hl ⊢
  have hl : lv_has ls 2 [(0, .long z)] := hl
  have hS : va_S (fun q => s.heap.size ≤ q) s.heap s.heap [] := va_S.rf
  refine lv_lload_n hx hb d_LG_bit_0 rfl (lv_at hl 0 rfl) ?_
  refine lv_lload_n hx hb d_LG_bit_1 rfl (lv_at hl 0 rfl) ?_
  refine lv_iconst (v := 1) hx hb d_LG_bit_2 (by decide) ?_
  refine lv_lushr hx hb d_LG_bit_3 rfl ?_
  refine lv_ldc2 (v := (6148914691236517205)) hx hb hown (htw _ (wm 98 rfl)) d_LG_bit_4 ?_
  refine lv_land hx hb d_LG_bit_7 ?_
  refine lv_lsub hx hb d_LG_bit_8 ?_
  refine lv_topl (fun z1 e1 => ?_)
  refine lv_lstore_n hx hb d_LG_bit_9 rfl hl (by decide) rfl (fun ls hl => ?_)
  have hl : lv_has ls 2 [(0, .long z1)] := hl
  refine lv_lload_n hx hb d_LG_bit_10 rfl (lv_at hl 0 rfl) ?_
  refine lv_ldc2 (v := (3689348814741910323)) hx hb hown (htw _ (wm 99 rfl)) d_LG_bit_11 ?_
  refine lv_land hx hb d_LG_bit_14 ?_
  refine lv_lload_n hx hb d_LG_bit_15 rfl (lv_at hl 0 rfl) ?_
  refine lv_iconst (v := 2) hx hb d_LG_bit_16 (by decide) ?_
  refine lv_lushr hx hb d_LG_bit_17 rfl ?_
  refine lv_ldc2 (v := (3689348814741910323)) hx hb hown (htw _ (wm 99 rfl)) d_LG_bit_18 ?_
  refine lv_land hx hb d_LG_bit_21 ?_
  refine lv_ladd hx hb d_LG_bit_22 ?_
  refine lv_topl (fun z2 e2 => ?_)
  refine lv_lstore_n hx hb d_LG_bit_23 rfl hl (by decide) rfl (fun ls hl => ?_)
  have hl : lv_has ls 2 [(0, .long z2)] := hl
  refine lv_lload_n hx hb d_LG_bit_24 rfl (lv_at hl 0 rfl) ?_
  refine lv_lload_n hx hb d_LG_bit_25 rfl (lv_at hl 0 rfl) ?_
  refine lv_iconst (v := 4) hx hb d_LG_bit_26 (by decide) ?_
  refine lv_lushr hx hb d_LG_bit_27 rfl ?_
  refine lv_ladd hx hb d_LG_bit_28 ?_
  refine lv_ldc2 (v := (1085102592571150095)) hx hb hown (htw _ (wm 100 rfl)) d_LG_bit_29 ?_
  refine lv_land hx hb d_LG_bit_32 ?_
  refine lv_topl (fun z3 e3 => ?_)
  refine lv_lstore_n hx hb d_LG_bit_33 rfl hl (by decide) rfl (fun ls hl => ?_)
  have hl : lv_has ls 2 [(0, .long z3)] := hl
  refine lv_lload_n hx hb d_LG_bit_34 rfl (lv_at hl 0 rfl) ?_
  refine lv_lload_n hx hb d_LG_bit_35 rfl (lv_at hl 0 rfl) ?_
  refine lv_bipush (v := 8) hx hb d_LG_bit_36 (by decide) ?_
  refine lv_lushr hx hb d_LG_bit_38 rfl ?_
  refine lv_ladd hx hb d_LG_bit_39 ?_
  refine lv_topl (fun z4 e4 => ?_)
  refine lv_lstore_n hx hb d_LG_bit_40 rfl hl (by decide) rfl (fun ls hl => ?_)
  have hl : lv_has ls 2 [(0, .long z4)] := hl
  refine lv_lload_n hx hb d_LG_bit_41 rfl (lv_at hl 0 rfl) ?_
  refine lv_lload_n hx hb d_LG_bit_42 rfl (lv_at hl 0 rfl) ?_
  refine lv_bipush (v := 16) hx hb d_LG_bit_43 (by decide) ?_
  refine lv_lushr hx hb d_LG_bit_45 rfl ?_
  refine lv_ladd hx hb d_LG_bit_46 ?_
  refine lv_topl (fun z5 e5 => ?_)
  refine lv_lstore_n hx hb d_LG_bit_47 rfl hl (by decide) rfl (fun ls hl => ?_)
  have hl : lv_has ls 2 [(0, .long z5)] := hl
  refine lv_lload_n hx hb d_LG_bit_48 rfl (lv_at hl 0 rfl) ?_
  refine lv_lload_n hx hb d_LG_bit_49 rfl (lv_at hl 0 rfl) ?_
  refine lv_bipush (v := 32) hx hb d_LG_bit_50 (by decide) ?_
  refine lv_lushr hx hb d_LG_bit_52 rfl ?_
  refine lv_ladd hx hb d_LG_bit_53 ?_
  refine lv_topl (fun z6 e6 => ?_)
  refine lv_lstore_n hx hb d_LG_bit_54 rfl hl (by decide) rfl (fun ls hl => ?_)
  have hl : lv_has ls 2 [(0, .long z6)] := hl
  refine lv_lload_n hx hb d_LG_bit_55 rfl (lv_at hl 0 rfl) ?_
  refine lv_l2i hx hb d_LG_bit_56 rfl ?_
  refine lv_bipush (v := 127) hx hb d_LG_bit_57 (by decide) ?_
  refine lv_iand hx hb d_LG_bit_59 ?_
  exact W.iret hx hb hr (fun t ht hW => ⟨⟨_, (), rfl, by subst e6; subst e5; subst e4; subst e3; subst e2; subst e1; rfl, trivial⟩, hS.F ht⟩) hS.2.2 d_LG_bit_60

-- mixGamma
set_option maxHeartbeats 4000000 in
theorem m_SR_mixG (l : Launch) (sz : Nat) (z : Int64) : Met l y_SR_mixG w_SR_mixG ({ frames := 1, cells := 0, slots := 0, locals := 21 }) (va_Pc [.long z] (fun U => U.heap.size = sz)) (va_Ql (fun (r : Int64) (_ : Unit) => r = fm_g z) (fun _ _ => True) (fun q => sz ≤ q)) 0 0 (fun q => sz ≤ q) := by
  refine Met.ofW (cc := b_SR_mixG) (maxL := 3) (ret := (some .long)) (by decide) rfl ?_
  intro p e s m args below meth c s₁ B hml hv
  obtain ⟨rfl, hsz⟩ := hv
  have hx := B.exec
  have hb := B.bytes
  have hr := B.returns
  have hts := atoms_spec (ws := w_SR_mixG) B.pre
  have htw := tail_ts hts
  have hown : s.vm.findClass R_SR = some m.cls := findClass_of_methodNamed B.named
  have hlocks := B.notSynchronized
  subst hsz
  have hl := lv_entry ([.long z]) (n := 3) (Nat.le_of_ble_eq_true rfl)
  rw [lg_entry_eq]
  generalize (lg_sl ([.long z]) ++ List.replicate (3 - (lg_sl ([.long z])).length) Slot.unset).toArray = ls at hl ⊢
  have hl : lv_has ls 3 [(0, .long z)] := hl
  have hS : va_S (fun q => s.heap.size ≤ q) s.heap s.heap [] := va_S.rf
  refine lv_lload_n hx hb d_SR_mixG_0 rfl (lv_at hl 0 rfl) ?_
  refine lv_lload_n hx hb d_SR_mixG_1 rfl (lv_at hl 0 rfl) ?_
  refine lv_bipush (v := 33) hx hb d_SR_mixG_2 (by decide) ?_
  refine lv_lushr hx hb d_SR_mixG_4 rfl ?_
  refine lv_lxor hx hb d_SR_mixG_5 ?_
  refine lv_ldc2 (v := (-49064778989728563)) hx hb hown (htw _ (wm 93 rfl)) d_SR_mixG_6 ?_
  refine lv_lmul hx hb d_SR_mixG_9 ?_
  refine lv_topl (fun z1 e1 => ?_)
  refine lv_lstore_n hx hb d_SR_mixG_10 rfl hl (by decide) rfl (fun ls hl => ?_)
  have hl : lv_has ls 3 [(0, .long z1)] := hl
  refine lv_lload_n hx hb d_SR_mixG_11 rfl (lv_at hl 0 rfl) ?_
  refine lv_lload_n hx hb d_SR_mixG_12 rfl (lv_at hl 0 rfl) ?_
  refine lv_bipush (v := 33) hx hb d_SR_mixG_13 (by decide) ?_
  refine lv_lushr hx hb d_SR_mixG_15 rfl ?_
  refine lv_lxor hx hb d_SR_mixG_16 ?_
  refine lv_ldc2 (v := (-4265267296055464877)) hx hb hown (htw _ (wm 94 rfl)) d_SR_mixG_17 ?_
  refine lv_lmul hx hb d_SR_mixG_20 ?_
  refine lv_topl (fun z2 e2 => ?_)
  refine lv_lstore_n hx hb d_SR_mixG_21 rfl hl (by decide) rfl (fun ls hl => ?_)
  have hl : lv_has ls 3 [(0, .long z2)] := hl
  refine lv_lload_n hx hb d_SR_mixG_22 rfl (lv_at hl 0 rfl) ?_
  refine lv_lload_n hx hb d_SR_mixG_23 rfl (lv_at hl 0 rfl) ?_
  refine lv_bipush (v := 33) hx hb d_SR_mixG_24 (by decide) ?_
  refine lv_lushr hx hb d_SR_mixG_26 rfl ?_
  refine lv_lxor hx hb d_SR_mixG_27 ?_
  refine lv_lconst (v := 1) hx hb d_SR_mixG_28 (by decide) ?_
  refine lv_lor hx hb d_SR_mixG_29 ?_
  refine lv_topl (fun z3 e3 => ?_)
  refine lv_lstore_n hx hb d_SR_mixG_30 rfl hl (by decide) rfl (fun ls hl => ?_)
  have hl : lv_has ls 3 [(0, .long z3)] := hl
  refine lv_lload_n hx hb d_SR_mixG_31 rfl (lv_at hl 0 rfl) ?_
  refine lv_lload_n hx hb d_SR_mixG_32 rfl (lv_at hl 0 rfl) ?_
  refine lv_iconst (v := 1) hx hb d_SR_mixG_33 (by decide) ?_
  refine lv_lushr hx hb d_SR_mixG_34 rfl ?_
  refine lv_lxor hx hb d_SR_mixG_35 ?_
  have hz3 : z3 = fm_x z := by subst e3; subst e2; subst e1; rfl
  refine lv_topl (fun y0 h0 => ?_)
  refine va_calli (va_runS (As := [.long y0]) (rest := []) ⟨hx, hb, hml, hown, htw⟩ (m_LG_bit l s.heap.size y0) (va_cwS 1 htw (gaS (wm 95 rfl) (wm 96 rfl) (wm 7 rfl) (wm 97 rfl)) rfl rfl rfl (by decide +kernel) ⟨Nat.le_of_ble_eq_true rfl, Nat.le_of_ble_eq_true rfl⟩) ⟨fun a U g mk q => q, fun U hU hW => ⟨rfl, congrArg Array.size hU⟩⟩ rfl rfl hl.1 rfl (lv_room (Nat.le_of_ble_eq_true rfl)) d_SR_mixG_36 ⟨Nat.le_of_ble_eq_true rfl, Nat.le_of_ble_eq_true rfl⟩) hS (fun q _ h => h) (fun q h => h) (fun r u t H locs ht hvm hp hB hz1 hk1 hS => ?_)
  have hp : r = fm_bc y0 := hp
  refine lv_istore_n hx hb d_SR_mixG_39 rfl hl (by decide) rfl (fun ls hl => ?_)
  have hl : lv_has ls 3 [(2, .int r), (0, .long z3)] := hl
  refine lv_iload_n hx hb d_SR_mixG_40 rfl (lv_at hl 0 rfl) ?_
  refine lv_bipush (v := 24) hx hb d_SR_mixG_41 (by decide) ?_
  refine lv_icmp_ge (tgt := 54) hx hb d_SR_mixG_43 (by decide) (fun hc => ?_) (fun hc => ?_)
  · refine lv_lload_n hx hb d_SR_mixG_54 rfl (lv_at hl 1 rfl) ?_
    refine W.lret hx hb hr (fun t ht hW => ⟨⟨_, (), rfl, ?_, trivial⟩, hS.F ht⟩) hS.2.2 d_SR_mixG_55
    unfold fm_g
    rw [← hz3]
    rw [hp, h0] at hc
    exact (if_pos hc).symm
  · refine lv_lload_n hx hb d_SR_mixG_46 rfl (lv_at hl 1 rfl) ?_
    refine lv_ldc2 (v := (-6148914691236517206)) hx hb hown (htw _ (wm 101 rfl)) d_SR_mixG_47 ?_
    refine lv_lxor hx hb d_SR_mixG_50 ?_
    refine lv_goto (tgt := 55) hx hb d_SR_mixG_51 (by decide) ?_
    refine W.lret hx hb hr (fun t ht hW => ⟨⟨_, (), rfl, ?_, trivial⟩, hS.F ht⟩) hS.2.2 d_SR_mixG_55
    unfold fm_g
    rw [← hz3]
    rw [hp, h0] at hc
    exact (if_neg hc).symm

section GA
variable {p : Program} {l : Launch} {e : Env} {R : Room} {s : State} {m : MethodId} {args : Array Value} {below : List Frame} {meth : Method} {c : Code} {H : Heap} {locs : List Loc} {cells slots : Nat} {Q : State → Prop}
/-- a turn's end: the two bits are compared, counted, and the loop goes on -/
theorem ga_tail (hx : p.tables.exec = Jvm.exec) (hb : c.code = b_LW_gamma) (w : Int64) (X k : Nat) (ih : ∀ ls : Array Slot, lv_has ls 4 [(0, .long w), (2, .int (nI (ct (k + 1) X))), (3, .int (nI (k + 1)))] → W p l e R s m args below meth c H locs cells slots Q (F0 m 35 ls []))
    (ls : Array Slot) (hl : lv_has ls 4 [(0, .long w), (2, .int (nI (ct k X))), (3, .int (nI k))]) (x y : Int64) (hxy : x = y ↔ X / 2 ^ k % 2 = 0) : W p l e R s m args below meth c H locs cells slots Q (F0 m 63 ls [.long y, .long x]) := by
  refine W.lcmp hx hb d_LW_gamma_63 ?_
  refine lv_if_eq (tgt := 70) hx hb d_LW_gamma_64 (by decide) (fun hc => ?_) (fun hc => ?_)
  · have h0 : X / 2 ^ k % 2 = 0 := hxy.mp ((lg_cmp_eq x y).mp hc)
    have e1 : ct (k + 1) X = ct k X := by rw [ct_up, h0]; rfl
    refine lv_iinc (k := 2) (v := nI (k + 1)) hx hb d_LW_gamma_70 hl rfl (nI_1 k) (by decide) rfl (fun ls hl => ?_)
    refine lv_goto (tgt := 35) hx hb d_LW_gamma_73 (by decide) ?_
    refine ih ls ?_
    rw [e1]
    exact lv_sub hl [1, 2, 0] rfl
  · have h0 : X / 2 ^ k % 2 = 1 := by
      have : ¬ X / 2 ^ k % 2 = 0 := fun h => hc ((lg_cmp_eq x y).mpr (hxy.mpr h))
      omega
    have e1 : ct (k + 1) X = ct k X + 1 := by rw [ct_up, h0]
    refine lv_iinc (k := 1) (v := nI (ct k X + 1)) hx hb d_LW_gamma_67 hl rfl (nI_1 _) (by decide) rfl (fun ls hl => ?_)
    have hl : lv_has ls 4 [(2, .int (nI (ct k X + 1))), (0, .long w), (3, .int (nI k))] := hl
    refine lv_iinc (k := 2) (v := nI (k + 1)) hx hb d_LW_gamma_70 hl rfl (nI_1 k) (by decide) rfl (fun ls hl => ?_)
    refine lv_goto (tgt := 35) hx hb d_LW_gamma_73 (by decide) ?_
    refine ih ls ?_
    rw [e1]
    exact lv_sub hl [2, 1, 0] rfl
/-- the loop over the 64 places -/
theorem ga_loop (hx : p.tables.exec = Jvm.exec) (hb : c.code = b_LW_gamma) (w : Int64) (kk : ∀ ls : Array Slot, lv_has ls 4 [(0, .long w), (2, .int (nI (ct 64 (uN (w ^^^ us w 1)))))] → W p l e R s m args below meth c H locs cells slots Q (F0 m 76 ls [])) :
    ∀ (n k : Nat) (ls : Array Slot), k + n = 64 → lv_has ls 4 [(0, .long w), (2, .int (nI (ct k (uN (w ^^^ us w 1))))), (3, .int (nI k))] → W p l e R s m args below meth c H locs cells slots Q (F0 m 35 ls []) := by
  intro n
  induction n with
  | zero =>
    intro k ls hk hl
    have hk : k = 64 := by omega
    subst hk
    refine lv_iload_n hx hb d_LW_gamma_35 rfl (lv_at hl 2 rfl) ?_
    refine lv_bipush (v := 64) hx hb d_LW_gamma_36 (by decide) ?_
    refine lv_icmp_ge (tgt := 76) hx hb d_LW_gamma_38 (by decide) (fun hc => ?_) (fun hc => ?_)
    · exact kk ls (lv_sub hl [0, 1] rfl)
    · exact absurd (by decide) hc
  | succ n ih =>
    intro k ls hk hl
    have ih := fun ls hl => ih (k + 1) ls (by omega) hl
    refine lv_iload_n hx hb d_LW_gamma_35 rfl (lv_at hl 2 rfl) ?_
    refine lv_bipush (v := 64) hx hb d_LW_gamma_36 (by decide) ?_
    refine lv_icmp_ge (tgt := 76) hx hb d_LW_gamma_38 (by decide) (fun hc => ?_) (fun hc => ?_)
    · exact absurd hc (nI_ge (a := k) (b := 64) (by omega) (by decide))
    refine lv_lload_n hx hb d_LW_gamma_41 rfl (lv_at hl 0 rfl) ?_
    refine lv_iload_n hx hb d_LW_gamma_42 rfl (lv_at hl 2 rfl) ?_
    refine lv_lushr hx hb d_LW_gamma_43 rfl ?_
    refine lv_lconst (v := 1) hx hb d_LW_gamma_44 (by decide) ?_
    refine lv_land hx hb d_LW_gamma_45 ?_
    refine lv_iload_n hx hb d_LW_gamma_46 rfl (lv_at hl 2 rfl) ?_
    refine lv_bipush (v := 63) hx hb d_LW_gamma_47 (by decide) ?_
    refine lv_icmp_ne (tgt := 56) hx hb d_LW_gamma_49 (by decide) (fun hc => ?_) (fun hc => ?_)
    · have hk63 : k < 63 := by
        have : k ≠ 63 := fun h => hc (by rw [h]; rfl)
        omega
      refine lv_lload_n hx hb d_LW_gamma_56 rfl (lv_at hl 0 rfl) ?_
      refine lv_iload_n hx hb d_LW_gamma_57 rfl (lv_at hl 2 rfl) ?_
      refine lv_iconst (v := 1) hx hb d_LW_gamma_58 (by decide) ?_
      refine lv_iadd hx hb d_LW_gamma_59 ?_
      refine lv_topi (fun j hj => ?_)
      have hj : j = nI (k + 1) := hj.trans (nI_1 k)
      subst hj
      refine lv_lushr hx hb d_LW_gamma_60 rfl ?_
      refine lv_lconst (v := 1) hx hb d_LW_gamma_61 (by decide) ?_
      refine lv_land hx hb d_LW_gamma_62 ?_
      exact ga_tail hx hb w _ k ih ls hl _ _ (turn_a w hk63)
    · have hk63 : k = 63 := by
        have h1 : nI k = nI 63 := hc
        exact (nI_eq (by omega) (by decide)).mp h1
      subst hk63
      refine lv_lconst (v := 0) hx hb d_LW_gamma_52 (by decide) ?_
      refine lv_goto (tgt := 63) hx hb d_LW_gamma_53 (by decide) ?_
      exact ga_tail hx hb w _ 63 ih ls hl _ _ (turn_b w)
end GA
-- the law's gamma: it counts turns, and comes to the JDK's mixGamma
set_option maxHeartbeats 4000000 in
theorem m_LW_gamma (l : Launch) (sz : Nat) (z : Int64) : Met l y_LW_gamma w_LW_gamma ({ frames := 0, cells := 0, slots := 0, locals := 0 }) (va_Pc [.long z] (fun U => U.heap.size = sz)) (va_Ql (fun (r : Int64) (_ : Unit) => r = fm_g z) (fun _ _ => True) (fun q => sz ≤ q)) 0 0 (fun q => sz ≤ q) := by
  refine Met.ofW (cc := b_LW_gamma) (maxL := 4) (ret := (some .long)) (by decide) rfl ?_
  intro p e s m args below meth c s₁ B hml hv
  obtain ⟨rfl, hsz⟩ := hv
  have hx := B.exec
  have hb := B.bytes
  have hr := B.returns
  have hts := atoms_spec (ws := w_LW_gamma) B.pre
  have htw := tail_ts hts
  have hown : s.vm.findClass R_law = some m.cls := findClass_of_methodNamed B.named
  have hlocks := B.notSynchronized
  subst hsz
  have hl := lv_entry ([.long z]) (n := 4) (Nat.le_of_ble_eq_true rfl)
  rw [lg_entry_eq]
  generalize (lg_sl ([.long z]) ++ List.replicate (4 - (lg_sl ([.long z])).length) Slot.unset).toArray = ls at hl ⊢
  have hl : lv_has ls 4 [(0, .long z)] := hl
  have hS : va_S (fun q => s.heap.size ≤ q) s.heap s.heap [] := va_S.rf
  refine lv_lload_n hx hb d_LW_gamma_0 rfl (lv_at hl 0 rfl) ?_
  refine lv_lload_n hx hb d_LW_gamma_1 rfl (lv_at hl 0 rfl) ?_
  refine lv_bipush (v := 33) hx hb d_LW_gamma_2 (by decide) ?_
  refine lv_lushr hx hb d_LW_gamma_4 rfl ?_
  refine lv_lxor hx hb d_LW_gamma_5 ?_
  refine lv_ldc2 (v := (-49064778989728563)) hx hb hown (htw _ (wm 115 rfl)) d_LW_gamma_6 ?_
  refine lv_lmul hx hb d_LW_gamma_9 ?_
  refine lv_topl (fun z1 e1 => ?_)
  refine lv_lstore_n hx hb d_LW_gamma_10 rfl hl (by decide) rfl (fun ls hl => ?_)
  have hl : lv_has ls 4 [(0, .long z1)] := hl
  refine lv_lload_n hx hb d_LW_gamma_11 rfl (lv_at hl 0 rfl) ?_
  refine lv_lload_n hx hb d_LW_gamma_12 rfl (lv_at hl 0 rfl) ?_
  refine lv_bipush (v := 33) hx hb d_LW_gamma_13 (by decide) ?_
  refine lv_lushr hx hb d_LW_gamma_15 rfl ?_
  refine lv_lxor hx hb d_LW_gamma_16 ?_
  refine lv_ldc2 (v := (-4265267296055464877)) hx hb hown (htw _ (wm 116 rfl)) d_LW_gamma_17 ?_
  refine lv_lmul hx hb d_LW_gamma_20 ?_
  refine lv_topl (fun z2 e2 => ?_)
  refine lv_lstore_n hx hb d_LW_gamma_21 rfl hl (by decide) rfl (fun ls hl => ?_)
  have hl : lv_has ls 4 [(0, .long z2)] := hl
  refine lv_lload_n hx hb d_LW_gamma_22 rfl (lv_at hl 0 rfl) ?_
  refine lv_lload_n hx hb d_LW_gamma_23 rfl (lv_at hl 0 rfl) ?_
  refine lv_bipush (v := 33) hx hb d_LW_gamma_24 (by decide) ?_
  refine lv_lushr hx hb d_LW_gamma_26 rfl ?_
  refine lv_lxor hx hb d_LW_gamma_27 ?_
  refine lv_lconst (v := 1) hx hb d_LW_gamma_28 (by decide) ?_
  refine lv_lor hx hb d_LW_gamma_29 ?_
  refine lv_topl (fun z3 e3 => ?_)
  refine lv_lstore_n hx hb d_LW_gamma_30 rfl hl (by decide) rfl (fun ls hl => ?_)
  have hl : lv_has ls 4 [(0, .long z3)] := hl
  have hz3 : z3 = fm_x z := by subst e3; subst e2; subst e1; rfl
  refine lv_iconst (v := 0) hx hb d_LW_gamma_31 (by decide) ?_
  refine lv_istore_n hx hb d_LW_gamma_32 rfl hl (by decide) rfl (fun ls hl => ?_)
  have hl : lv_has ls 4 [(2, .int 0), (0, .long z3)] := hl
  refine lv_iconst (v := 0) hx hb d_LW_gamma_33 (by decide) ?_
  refine lv_istore_n hx hb d_LW_gamma_34 rfl hl (by decide) rfl (fun ls hl => ?_)
  have hl : lv_has ls 4 [(3, .int 0), (2, .int 0), (0, .long z3)] := hl
  refine ga_loop hx hb z3 (fun ls hl => ?_) 64 0 ls rfl (lv_sub hl [2, 1, 0] rfl)
  refine lv_iload_n hx hb d_LW_gamma_76 rfl (lv_at hl 1 rfl) ?_
  refine lv_bipush (v := 24) hx hb d_LW_gamma_77 (by decide) ?_
  refine lv_icmp_ge (tgt := 90) hx hb d_LW_gamma_79 (by decide) (fun hc => ?_) (fun hc => ?_)
  · refine lv_lload_n hx hb d_LW_gamma_90 rfl (lv_at hl 0 rfl) ?_
    refine W.lret hx hb hr (fun t ht hW => ⟨⟨_, (), rfl, ?_, trivial⟩, hS.F ht⟩) hS.2.2 d_LW_gamma_91
    unfold fm_g
    rw [← hz3, bc_ct]
    exact (if_pos hc).symm
  · refine lv_lload_n hx hb d_LW_gamma_82 rfl (lv_at hl 0 rfl) ?_
    refine lv_ldc2 (v := (-6148914691236517206)) hx hb hown (htw _ (wm 117 rfl)) d_LW_gamma_83 ?_
    refine lv_lxor hx hb d_LW_gamma_86 ?_
    refine lv_goto (tgt := 91) hx hb d_LW_gamma_87 (by decide) ?_
    refine W.lret hx hb hr (fun t ht hW => ⟨⟨_, (), rfl, ?_, trivial⟩, hS.F ht⟩) hS.2.2 d_LW_gamma_91
    unfold fm_g
    rw [← hz3, bc_ct]
    exact (if_neg hc).symm

-- AbstractSpliteratorGenerator(): nothing
set_option maxHeartbeats 4000000 in
theorem m_SG_init (l : Launch) (sz h0 : Nat) : Met l y_SG_init w_SG_init ({ frames := 1, cells := 0, slots := 0, locals := 12 }) (va_Pc [.ref h0] (fun U => U.heap.size = sz)) (va_Qv (fun (_ : Unit) => True) (fun _ _ => True) (fun q => sz ≤ q)) 0 0 (fun q => sz ≤ q) := by
  refine Met.ofW (cc := b_SG_init) (maxL := 1) (ret := none) (by decide) rfl ?_
  intro p e s m args below meth c s₁ B hml hv
  obtain ⟨rfl, hsz⟩ := hv
  have hx := B.exec
  have hb := B.bytes
  have hr := B.returns
  have hts := atoms_spec (ws := w_SG_init) B.pre
  have htw := tail_ts hts
  have hown : s.vm.findClass R_SG = some m.cls := findClass_of_methodNamed B.named
  have hlocks := B.notSynchronized
  subst hsz
  have hl := lv_entry ([.ref h0]) (n := 1) (Nat.le_of_ble_eq_true rfl)
  rw [lg_entry_eq]
  generalize (lg_sl ([.ref h0]) ++ List.replicate (1 - (lg_sl ([.ref h0])).length) Slot.unset).toArray = ls at hl ⊢
  have hl : lv_has ls 1 [(0, .ref h0)] := hl
  have hS : va_S (fun q => s.heap.size ≤ q) s.heap s.heap [] := va_S.rf
  refine lv_aload_n hx hb d_SG_init_0 rfl (lv_at hl 0 rfl) ?_
  refine W.objInit hx hb hown (htw _ (wm 36 rfl)) (htw _ (wm 14 rfl)) (htw _ (wm 15 rfl)) rfl (by rw [hml]; exact hl.1) rfl d_SG_init_1 (Nat.le_of_ble_eq_true rfl) (Nat.le_of_ble_eq_true rfl) ?_
  refine W.eq (g2 := F0 m 4 ls []) rfl ?_
  exact W.vret hx hb hr (fun t ht hW => ⟨⟨(), rfl, trivial, trivial⟩, hS.F ht⟩) hS.2.2 d_SG_init_4

-- AbstractSplittableGenerator(): nothing
set_option maxHeartbeats 4000000 in
theorem m_SP_init (l : Launch) (sz h0 : Nat) : Met l y_SP_init w_SP_init ({ frames := 2, cells := 0, slots := 0, locals := 32 }) (va_Pc [.ref h0] (fun U => U.heap.size = sz)) (va_Qv (fun (_ : Unit) => True) (fun _ _ => True) (fun q => sz ≤ q)) 0 0 (fun q => sz ≤ q) := by
  refine Met.ofW (cc := b_SP_init) (maxL := 1) (ret := none) (by decide) rfl ?_
  intro p e s m args below meth c s₁ B hml hv
  obtain ⟨rfl, hsz⟩ := hv
  have hx := B.exec
  have hb := B.bytes
  have hr := B.returns
  have hts := atoms_spec (ws := w_SP_init) B.pre
  have htw := tail_ts hts
  have hown : s.vm.findClass R_SP = some m.cls := findClass_of_methodNamed B.named
  have hlocks := B.notSynchronized
  subst hsz
  have hl := lv_entry ([.ref h0]) (n := 1) (Nat.le_of_ble_eq_true rfl)
  rw [lg_entry_eq]
  generalize (lg_sl ([.ref h0]) ++ List.replicate (1 - (lg_sl ([.ref h0])).length) Slot.unset).toArray = ls at hl ⊢
  have hl : lv_has ls 1 [(0, .ref h0)] := hl
  have hS : va_S (fun q => s.heap.size ≤ q) s.heap s.heap [] := va_S.rf
  refine lv_aload_n hx hb d_SP_init_0 rfl (lv_at hl 0 rfl) ?_
  refine va_callv (va_runI (As := []) (rest := []) ⟨hx, hb, hml, hown, htw⟩ (m_SG_init l s.heap.size h0) (cwI 0 htw (gaI (wm 35 rfl)) rfl rfl rfl (htw _ (wm 3 rfl)) (htw _ (wm 33 rfl)) (htw _ (wm 34 rfl)) rfl (by decide +kernel) ⟨Nat.le_of_ble_eq_true rfl, Nat.le_of_ble_eq_true rfl⟩) ⟨fun a U g mk q => q, fun U hU hW => ⟨rfl, congrArg Array.size hU⟩⟩ rfl rfl hl.1 rfl (lv_room (Nat.le_of_ble_eq_true rfl)) d_SP_init_1 ⟨Nat.le_of_ble_eq_true rfl, Nat.le_of_ble_eq_true rfl⟩) hS (fun q _ h => h) (fun q h => h) (fun u t H locs ht hvm hp hB hz1 hk1 hS => ?_)
  exact W.vret hx hb hr (fun t ht hW => ⟨⟨(), rfl, trivial, trivial⟩, hS.F ht⟩) hS.2.2 d_SP_init_4
end
section
/-! joins behind calls; the proxy's and the generator's methods: printed by wip/D-90558w/gen6.py -/
theorem atH {D : va_G} {cl : List vw_C} {ws : va_W} {t : State} {H : Heap} (ht : t.heap = H) (h : va_P D cl ws H) : va_P D cl ws t.heap := by rw [ht]; exact h
theorem jn_keep {D : va_G} {cl : List vw_C} {ws : va_W} {H H1 : Heap} (hP : va_P D cl ws H) (hk : ∀ q : Nat, q < H.size → ¬ (H.size ≤ q) → H1[q]? = H[q]?) : va_P D cl ws H1 :=
  hP.kept (fun k q h => hk q.1 (hP k q h).lt (by have := (hP k q h).lt; omega))
theorem jn_free {A0 : Nat → Prop} {ws : va_W} {i a n : Nat} {e : va_E} (hD : va_D A0 ws) (hi : ws[i]? = some (a, e)) (hA : ∀ q, n ≤ q → A0 q) : ∀ q, va_A [(a, e)] n q → A0 q := by
  intro q h
  rcases h with ⟨k, e2, h⟩ | h
  · cases k with
    | zero =>
      cases h
      exact hD.2 i _ hi
    | succ k => cases h
  · exact hA q h
theorem jn_set {A0 : Nat → Prop} {D : va_G} {cl : List vw_C} {ws w2 : va_W} {i a : Nat} {e e2 : va_E} {H H1 : Heap} (hP : va_P D cl ws H) (hD : va_D A0 ws) (hi : ws[i]? = some (a, e)) (hk : ∀ q : Nat, q < H.size → ¬ va_A [(a, e)] H.size q → H1[q]? = H[q]?) (hA : ∀ q, H.size ≤ q → A0 q)
    (hP1 : va_P D cl ((a, e2) :: w2) H1) (hD2 : va_D (fun q => H.size ≤ q) w2) : va_P D cl (ws.set i (a, e2) ++ w2) H1 ∧ va_D A0 (ws.set i (a, e2) ++ w2) := by
  have hl := (List.getElem?_eq_some_iff.mp hi).1
  have key : ∀ (k : Nat) (q : Nat × va_E), (ws.set i (a, e2))[k]? = some q → (k = i ∧ q = (a, e2)) ∨ (k ≠ i ∧ ws[k]? = some q) := by
    intro k q hk
    by_cases h : k = i
    · subst h
      rw [List.getElem?_set_self hl] at hk
      exact Or.inl ⟨rfl, (Option.some.inj hk).symm⟩
    · rw [List.getElem?_set_ne (Ne.symm h)] at hk
      exact Or.inr ⟨h, hk⟩
  refine ⟨va_P.app (fun k q h => ?_) (fun k q h => hP1 (k + 1) q h), va_D.app (hD.set hi) (hD2.weaken (fun _ _ _ h => hA _ h)) (fun k j x y hx hy hxy => ?_)⟩
  · rcases key k q h with ⟨-, rfl⟩ | ⟨h1, h2⟩
    · exact hP1 0 _ rfl
    · refine (hP k q h2).kept (hk q.1 (hP k q h2).lt (fun z => ?_))
      rcases z with ⟨k2, e3, z⟩ | z
      · cases k2 with
        | zero =>
          have ha : a = q.1 := congrArg Prod.fst (Option.some.inj z)
          exact h1 (hD.1 k i q (a, e) h2 hi ha.symm)
        | succ k2 => cases z
      · have := (hP k q h2).lt
        omega
  · have h2 := hD2.2 j y hy
    have h1 : x.1 < H.size := by
      rcases key k x hx with ⟨-, rfl⟩ | ⟨-, h⟩
      · exact (hP i _ hi).lt
      · exact (hP k x h).lt
    have h2 : H.size ≤ y.1 := h2
    omega
theorem jn_set0 {A0 : Nat → Prop} {D : va_G} {cl : List vw_C} {ws : va_W} {i a : Nat} {e e2 : va_E} {H H1 : Heap} (hP : va_P D cl ws H) (hD : va_D A0 ws) (hi : ws[i]? = some (a, e)) (hk : ∀ q : Nat, q < H.size → ¬ va_A [(a, e)] H.size q → H1[q]? = H[q]?) (hA : ∀ q, H.size ≤ q → A0 q)
    (hP1 : va_P D cl [(a, e2)] H1) : va_P D cl (ws.set i (a, e2)) H1 ∧ va_D A0 (ws.set i (a, e2)) := by
  have h := jn_set (w2 := []) hP hD hi hk hA hP1 ⟨fun i j p q h => (by cases h), fun k q h => (by cases h)⟩
  rw [List.append_nil] at h
  exact h
theorem d_one {h sz : Nat} {e : va_E} : va_D (va_A [(h, e)] sz) [(h, e)] := by
  refine ⟨fun i j p q hi hj _ => ?_, fun k q hk => va_A.in hk⟩
  have h1 : i < 1 := (List.getElem?_eq_some_iff.mp hi).1
  have h2 : j < 1 := (List.getElem?_eq_some_iff.mp hj).1
  omega
theorem d_new {n a : Nat} {e : va_E} (h : n ≤ a) : va_D (fun q => n ≤ q) [(a, e)] := by
  refine ⟨fun i j p q hi hj _ => ?_, fun k q hk => ?_⟩
  · have h1 : i < 1 := (List.getElem?_eq_some_iff.mp hi).1
    have h2 : j < 1 := (List.getElem?_eq_some_iff.mp hj).1
    omega
  · have h1 : k < 1 := (List.getElem?_eq_some_iff.mp hk).1
    have h0 : k = 0 := by omega
    subst h0
    cases hk
    exact h
theorem new_ge {h sz i j q : Nat} {e e1 e2 : va_E} {ws : va_W} (hD : va_D (va_A [(h, e)] sz) ws) (hi : ws[i]? = some (h, e1)) (hj : ws[j]? = some (q, e2)) (hn : i ≠ j) : sz ≤ q := by
  rcases hD.2 j _ hj with ⟨k, e3, z⟩ | z
  · cases k with
    | zero =>
      have ha : h = q := congrArg Prod.fst (Option.some.inj z)
      exact absurd (hD.1 i j _ _ hi hj ha) hn
    | succ k => cases z
  · exact z
theorem fb_K {D : va_G} {cl : List vw_C} {tys : List (ClassId × FieldType)} {U : State} {g : JFrame} {mk : MethodId} {a : Array Value} (h : va_K D cl tys U) : va_K D cl tys (U.calling g mk a) := va_K.moved (u := U) (U := U.calling g mk a) (Vm.Alike.refl U.vm) h
theorem fb_N {U : State} {g : JFrame} {mk : MethodId} {a : Array Value} (h : va_Nw k_nest U) : va_Nw k_nest (U.calling g mk a) := va_Nw.same (w := k_nest) (u := U) (U := U.calling g mk a) rfl rfl h
theorem fb_A {U : State} {g : JFrame} {mk : MethodId} {a : Array Value} (h : va_AO R_SR U) : va_AO R_SR (U.calling g mk a) := va_AO.moved (u := U) (U := U.calling g mk a) (Vm.Alike.refl U.vm) h

-- Proxy(g): the field holds g
set_option maxHeartbeats 4000000 in
theorem m_PX_init (l : Launch) (dC : Nat → ClassId) (dI : Nat → Nat → Nat) (sz h0 : Nat) (h1 : Nat) : Met l y_PX_init w_PX_init ({ frames := 3, cells := 0, slots := 0, locals := 52 }) (va_Pc [.ref h0, .ref h1] (fun U => U.heap.size = sz ∧ va_P (dC, dI) kcls [(h0, .inr (2, [.null]))] U.heap ∧ va_K (dC, dI) kcls [] U)) (va_Qv (fun (_ : Unit) => True) (fun _ t => va_P (dC, dI) kcls [(h0, .inr (2, [.ref h1]))] t.heap) (va_A [(h0, .inr (2, [.null]))] sz)) 0 0 (va_A [(h0, .inr (2, [.null]))] sz) := by
  refine Met.ofW (cc := b_PX_init) (maxL := 2) (ret := none) (by decide) rfl ?_
  intro p e s m args below meth c s₁ B hml hv
  obtain ⟨rfl, hsz, hP, hK⟩ := hv
  have hx := B.exec
  have hb := B.bytes
  have hr := B.returns
  have hts := atoms_spec (ws := w_PX_init) B.pre
  have htw := tail_ts hts
  have hown : s.vm.findClass R_PX = some m.cls := findClass_of_methodNamed B.named
  have hlocks := B.notSynchronized
  subst hsz
  have hl := lv_entry ([.ref h0, .ref h1]) (n := 2) (Nat.le_of_ble_eq_true rfl)
  rw [lg_entry_eq]
  generalize (lg_sl ([.ref h0, .ref h1]) ++ List.replicate (2 - (lg_sl ([.ref h0, .ref h1])).length) Slot.unset).toArray = ls at hl ⊢
  have hl : lv_has ls 2 [(0, .ref h0), (1, .ref h1)] := hl
  have hin : meth.name = "<init>" := (name_of_methodNamed B.named B.method).1
  have hD := d_one (h := h0) (e := .inr (2, [.null])) (sz := s.heap.size)
  generalize hAe : va_A [(h0, .inr (2, [.null]))] s.heap.size = A at hD ⊢
  have hA : ∀ q : Nat, s.heap.size ≤ q → A q := fun q h => by rw [← hAe]; exact Or.inr h
  have hS : va_S A s.heap s.heap [] := va_S.rf
  refine lv_aload_n hx hb d_PX_init_0 rfl (lv_at hl 0 rfl) ?_
  refine lv_aload_n hx hb d_PX_init_1 rfl (lv_at hl 1 rfl) ?_
  refine va_putF (D := (dC, dI)) (ci := 2) (v := .ref h1) (ty := .object "java/util/SplittableRandom") (C := R_PX) (T := F_PX) (N := 1) hx hb htw in_PX t_PX t_PX_ok n_PX hown hK hP hD hS 0 rfl rfl 0 (by decide) (htw _ (wm 37 rfl)) (fun _ h9 => h9) rfl hin rfl (by decide +kernel) rfl rfl (Nat.le_of_ble_eq_true rfl) d_PX_init_2 (fun H locs hP hD hS => ?_)
  have hP : va_P (dC, dI) kcls [(h0, .inr (2, [.ref h1]))] H := hP
  have hD : va_D A [(h0, .inr (2, [.ref h1]))] := hD
  refine lv_aload_n hx hb d_PX_init_5 rfl (lv_at hl 0 rfl) ?_
  refine va_callv (va_runI (As := []) (rest := []) ⟨hx, hb, hml, hown, htw⟩ (m_SP_init l H.size h0) (cwI 0 htw (gaI (wm 32 rfl)) rfl rfl rfl (htw _ (wm 4 rfl)) (htw _ (wm 30 rfl)) (htw _ (wm 31 rfl)) rfl (by decide +kernel) ⟨Nat.le_of_ble_eq_true rfl, Nat.le_of_ble_eq_true rfl⟩) ⟨fun a U g mk q => q, fun U hU hW => ⟨rfl, congrArg Array.size hU⟩⟩ rfl rfl hl.1 rfl (lv_room (Nat.le_of_ble_eq_true rfl)) d_PX_init_6 ⟨Nat.le_of_ble_eq_true rfl, Nat.le_of_ble_eq_true rfl⟩) hS (fun q _ h => hA q (Nat.le_trans hS.1 h)) (fun q h => hA q (Nat.le_trans hS.1 h)) (fun u t H1 locs ht hvm hp hB hz1 hk1 hS => ?_)
  have hP := jn_keep hP hk1
  exact W.vret hx hb hr (fun t ht hW => ⟨⟨(), rfl, trivial, atH ht hP⟩, hS.F ht⟩) hS.2.2 d_PX_init_9

-- SplittableRandom(a, b)
set_option maxHeartbeats 4000000 in
theorem m_SR_initJJ (l : Launch) (dC : Nat → ClassId) (dI : Nat → Nat → Nat) (sz h0 : Nat) (a b : Int64) : Met l y_SR_initJJ w_SR_initJJ ({ frames := 4, cells := 1, slots := 1, locals := 73 }) (va_Pc [.ref h0, .long a, .long b] (fun U => U.heap.size = sz ∧ va_P (dC, dI) kcls [(h0, .inr (1, [.long 0, .long 0, .null]))] U.heap ∧ va_K (dC, dI) kcls [] U ∧ va_Nw k_nest U)) (va_Qv (fun (_ : Nat) => True) (fun v t => va_P (dC, dI) kcls [(h0, .inr (1, [.long a, .long b, .ref v]))] t.heap) (va_A [(h0, .inr (1, [.long 0, .long 0, .null]))] sz)) 1 1 (va_A [(h0, .inr (1, [.long 0, .long 0, .null]))] sz) := by
  refine Met.ofW (cc := b_SR_initJJ) (maxL := 5) (ret := none) (by decide) rfl ?_
  intro p e s m args below meth c s₁ B hml hv
  obtain ⟨rfl, hsz, hP, hK, hN⟩ := hv
  have hx := B.exec
  have hb := B.bytes
  have hr := B.returns
  have hts := atoms_spec (ws := w_SR_initJJ) B.pre
  have htw := tail_ts hts
  have hown : s.vm.findClass R_SR = some m.cls := findClass_of_methodNamed B.named
  have hlocks := B.notSynchronized
  subst hsz
  have hl := lv_entry ([.ref h0, .long a, .long b]) (n := 5) (Nat.le_of_ble_eq_true rfl)
  rw [lg_entry_eq]
  generalize (lg_sl ([.ref h0, .long a, .long b]) ++ List.replicate (5 - (lg_sl ([.ref h0, .long a, .long b])).length) Slot.unset).toArray = ls at hl ⊢
  have hl : lv_has ls 5 [(0, .ref h0), (1, .long a), (3, .long b)] := hl
  have hin : meth.name = "<init>" := (name_of_methodNamed B.named B.method).1
  have hD := d_one (h := h0) (e := .inr (1, [.long 0, .long 0, .null])) (sz := s.heap.size)
  generalize hAe : va_A [(h0, .inr (1, [.long 0, .long 0, .null]))] s.heap.size = A at hD ⊢
  have hA : ∀ q : Nat, s.heap.size ≤ q → A q := fun q h => by rw [← hAe]; exact Or.inr h
  have hS : va_S A s.heap s.heap [] := va_S.rf
  refine lv_aload_n hx hb d_SR_initJJ_0 rfl (lv_at hl 0 rfl) ?_
  refine W.objInit hx hb hown (htw _ (wm 25 rfl)) (htw _ (wm 14 rfl)) (htw _ (wm 15 rfl)) rfl (by rw [hml]; exact hl.1) rfl d_SR_initJJ_1 (Nat.le_of_ble_eq_true rfl) (Nat.le_of_ble_eq_true rfl) ?_
  refine W.eq (g2 := F0 m 4 ls []) rfl ?_
  refine lv_aload_n hx hb d_SR_initJJ_4 rfl (lv_at hl 0 rfl) ?_
  refine lv_lload_n hx hb d_SR_initJJ_5 rfl (lv_at hl 1 rfl) ?_
  refine va_put (D := (dC, dI)) (ci := 1) (v := .long a) (ty := .long) (C := R_SR) (T := F_SR) (N := 3) hx hb htw in_SR t_SR t_SR_ok n_SR hown hK hP hD hS 0 rfl rfl 0 (by decide) (htw _ (wm 39 rfl)) (fun _ h9 => h9) rfl (by decide +kernel) rfl rfl (Nat.le_of_ble_eq_true rfl) d_SR_initJJ_6 (fun H locs hP hD hS => ?_)
  have hP : va_P (dC, dI) kcls [(h0, .inr (1, [.long a, .long 0, .null]))] H := hP
  have hD : va_D A [(h0, .inr (1, [.long a, .long 0, .null]))] := hD
  refine lv_aload_n hx hb d_SR_initJJ_9 rfl (lv_at hl 0 rfl) ?_
  refine lv_lload_n hx hb d_SR_initJJ_10 rfl (lv_at hl 2 rfl) ?_
  refine va_putF (D := (dC, dI)) (ci := 1) (v := .long b) (ty := .long) (C := R_SR) (T := F_SR) (N := 3) hx hb htw in_SR t_SR t_SR_ok n_SR hown hK hP hD hS 0 rfl rfl 1 (by decide) (htw _ (wm 40 rfl)) (fun _ h9 => h9) rfl hin rfl (by decide +kernel) rfl rfl (Nat.le_of_ble_eq_true rfl) d_SR_initJJ_11 (fun H locs hP hD hS => ?_)
  have hP : va_P (dC, dI) kcls [(h0, .inr (1, [.long a, .long b, .null]))] H := hP
  have hD : va_D A [(h0, .inr (1, [.long a, .long b, .null]))] := hD
  refine lv_aload_n hx hb d_SR_initJJ_14 rfl (lv_at hl 0 rfl) ?_
  refine va_new (ci := 2) (fs := [.null]) (C := R_PX) (T := F_PX) (N := 1) hx hb htw in_PX t_PX t_PX_ok hown (htw _ (wm 26 rfl)) (htw _ (wm 27 rfl)) (htw _ (wm 5 rfl)) hK hP hD hS hA rfl (fun j hj => by rcases (show j = 0 by omega) with rfl <;> rfl) (Nat.le_of_ble_eq_true rfl) (Nat.le_of_ble_eq_true rfl) d_SR_initJJ_15 (fun v H hP hD hS => ?_)
  have hP : va_P (dC, dI) kcls [(h0, .inr (1, [.long a, .long b, .null])), (v, .inr (2, [.null]))] H := hP
  have hD : va_D A [(h0, .inr (1, [.long a, .long b, .null])), (v, .inr (2, [.null]))] := hD
  refine W.widen (k := 1) (n := 1) (by omega) (by omega) ?_
  refine lv_dup hx hb d_SR_initJJ_18 rfl ?_
  refine lv_aload_n hx hb d_SR_initJJ_19 rfl (lv_at hl 0 rfl) ?_
  have hPc := hP.sub (ws' := [(v, .inr (2, [.null]))]) [1] rfl
  have hA1 : ∀ q, H.size ≤ q → A q := fun q h => hA q (Nat.le_trans hS.1 h)
  have hF := jn_free (i := 1) (n := H.size) hD rfl hA1
  refine va_callv (va_runIN (As := [.ref h0]) (rest := [.ref v, .ref h0]) ⟨hx, hb, hml, hown, htw⟩ (m_PX_init l dC dI H.size v h0) ⟨va_cnB 1 htw (gaI (wm 29 rfl)) rfl rfl rfl hN (htw _ (wm 5 rfl)) (by decide +kernel) ⟨Nat.le_of_ble_eq_true rfl, Nat.le_of_ble_eq_true rfl⟩, rfl, htw _ (wm 28 rfl)⟩ ⟨fun a U g mk q => ⟨q.1, q.2.1, q.2.2.1, fb_K q.2.2.2⟩, fun U hU hW => ⟨rfl, congrArg Array.size hU, atH hU hPc, va_K.moved hW.alike hK⟩⟩ rfl rfl hl.1 rfl (lv_room (Nat.le_of_ble_eq_true rfl)) d_SR_initJJ_20 ⟨Nat.le_of_ble_eq_true rfl, Nat.le_of_ble_eq_true rfl⟩) hS (fun q _ h => hF q h) hF (fun u t H1 locs ht hvm hp hB hz1 hk1 hS => ?_)
  rw [ht] at hB
  obtain ⟨hP, hD⟩ := jn_set0 hP hD (i := 1) rfl hk1 hA1 hB
  have hP : va_P (dC, dI) kcls [(h0, .inr (1, [.long a, .long b, .null])), (v, .inr (2, [.ref h0]))] H1 := hP
  have hD : va_D A [(h0, .inr (1, [.long a, .long b, .null])), (v, .inr (2, [.ref h0]))] := hD
  refine va_put (D := (dC, dI)) (ci := 1) (v := .ref v) (ty := (.object "java/util/SplittableRandom$AbstractSplittableGeneratorProxy")) (C := R_SR) (T := F_SR) (N := 3) hx hb htw in_SR t_SR t_SR_ok n_SR hown hK hP hD hS 0 rfl rfl 2 (by decide) (htw _ (wm 41 rfl)) (fun _ h9 => h9) rfl (by decide +kernel) rfl rfl (Nat.le_of_ble_eq_true rfl) d_SR_initJJ_23 (fun H locs hP hD hS => ?_)
  have hP : va_P (dC, dI) kcls [(h0, .inr (1, [.long a, .long b, .ref v])), (v, .inr (2, [.ref h0]))] H := hP
  have hD : va_D A [(h0, .inr (1, [.long a, .long b, .ref v])), (v, .inr (2, [.ref h0]))] := hD
  have hP9 := hP.sub (ws' := [(h0, .inr (1, [.long a, .long b, .ref v]))]) [0] rfl
  exact W.vret hx hb hr (fun t ht hW => ⟨⟨v, rfl, trivial, atH ht hP9⟩, hS.F ht⟩) hS.2.2 d_SR_initJJ_26

-- SplittableRandom(a)
set_option maxHeartbeats 4000000 in
theorem m_SR_initJ (l : Launch) (dC : Nat → ClassId) (dI : Nat → Nat → Nat) (sz h0 : Nat) (a : Int64) : Met l y_SR_initJ w_SR_initJ ({ frames := 5, cells := 1, slots := 1, locals := 97 }) (va_Pc [.ref h0, .long a] (fun U => U.heap.size = sz ∧ va_P (dC, dI) kcls [(h0, .inr (1, [.long 0, .long 0, .null]))] U.heap ∧ va_K (dC, dI) kcls [] U ∧ va_Nw k_nest U)) (va_Qv (fun (_ : Nat) => True) (fun v t => va_P (dC, dI) kcls [(h0, .inr (1, [.long a, .long (-7046029254386353131), .ref v]))] t.heap) (va_A [(h0, .inr (1, [.long 0, .long 0, .null]))] sz)) 1 1 (va_A [(h0, .inr (1, [.long 0, .long 0, .null]))] sz) := by
  refine Met.ofW (cc := b_SR_initJ) (maxL := 3) (ret := none) (by decide) rfl ?_
  intro p e s m args below meth c s₁ B hml hv
  obtain ⟨rfl, hsz, hP, hK, hN⟩ := hv
  have hx := B.exec
  have hb := B.bytes
  have hr := B.returns
  have hts := atoms_spec (ws := w_SR_initJ) B.pre
  have htw := tail_ts hts
  have hown : s.vm.findClass R_SR = some m.cls := findClass_of_methodNamed B.named
  have hlocks := B.notSynchronized
  subst hsz
  have hl := lv_entry ([.ref h0, .long a]) (n := 3) (Nat.le_of_ble_eq_true rfl)
  rw [lg_entry_eq]
  generalize (lg_sl ([.ref h0, .long a]) ++ List.replicate (3 - (lg_sl ([.ref h0, .long a])).length) Slot.unset).toArray = ls at hl ⊢
  have hl : lv_has ls 3 [(0, .ref h0), (1, .long a)] := hl
  have hin : meth.name = "<init>" := (name_of_methodNamed B.named B.method).1
  have hD := d_one (h := h0) (e := .inr (1, [.long 0, .long 0, .null])) (sz := s.heap.size)
  generalize hAe : va_A [(h0, .inr (1, [.long 0, .long 0, .null]))] s.heap.size = A at hD ⊢
  have hA : ∀ q : Nat, s.heap.size ≤ q → A q := fun q h => by rw [← hAe]; exact Or.inr h
  have hS : va_S A s.heap s.heap [] := va_S.rf
  refine lv_aload_n hx hb d_SR_initJ_0 rfl (lv_at hl 0 rfl) ?_
  refine lv_lload_n hx hb d_SR_initJ_1 rfl (lv_at hl 1 rfl) ?_
  refine lv_ldc2 (v := (-7046029254386353131)) hx hb hown (htw _ (wm 21 rfl)) d_SR_initJ_2 ?_
  have hF := jn_free (i := 0) (n := s.heap.size) hD rfl hA
  refine va_callv (va_runI (As := [.long a, .long (-7046029254386353131)]) (rest := []) ⟨hx, hb, hml, hown, htw⟩ (m_SR_initJJ l dC dI s.heap.size h0 a (-7046029254386353131)) (cwI 2 htw (gaI (wm 24 rfl)) rfl rfl rfl (htw _ (wm 2 rfl)) (htw _ (wm 22 rfl)) (htw _ (wm 23 rfl)) rfl (by decide +kernel) ⟨Nat.le_of_ble_eq_true rfl, Nat.le_of_ble_eq_true rfl⟩) ⟨fun a U g mk q => ⟨q.1, q.2.1, q.2.2.1, fb_K q.2.2.2.1, fb_N q.2.2.2.2⟩, fun U hU hW => ⟨rfl, congrArg Array.size hU, atH hU hP, va_K.moved hW.alike hK, va_Nw.warmM hW hN⟩⟩ rfl rfl hl.1 rfl (lv_room (Nat.le_of_ble_eq_true rfl)) d_SR_initJ_5 ⟨Nat.le_of_ble_eq_true rfl, Nat.le_of_ble_eq_true rfl⟩) hS (fun q _ h => hF q h) hF (fun v t H locs ht hvm hp hB hz1 hk1 hS => ?_)
  rw [ht] at hB
  exact W.vret hx hb hr (fun t ht hW => ⟨⟨v, rfl, trivial, atH ht hB⟩, hS.F ht⟩) hS.2.2 d_SR_initJ_8

-- nextSeed: the seed goes on by gamma
set_option maxHeartbeats 4000000 in
theorem m_SR_next (l : Launch) (dC : Nat → ClassId) (dI : Nat → Nat → Nat) (sz h0 : Nat) (a b : Int64) (v : Value) : Met l y_SR_next w_SR_next ({ frames := 0, cells := 0, slots := 0, locals := 0 }) (va_Pc [.ref h0] (fun U => U.heap.size = sz ∧ va_P (dC, dI) kcls [(h0, .inr (1, [.long a, .long b, v]))] U.heap ∧ va_K (dC, dI) kcls [] U)) (va_Ql (fun (r : Int64) (_ : Unit) => r = a + b) (fun _ t => va_P (dC, dI) kcls [(h0, .inr (1, [.long (a + b), .long b, v]))] t.heap) (va_A [(h0, .inr (1, [.long a, .long b, v]))] sz)) 0 0 (va_A [(h0, .inr (1, [.long a, .long b, v]))] sz) := by
  refine Met.ofW (cc := b_SR_next) (maxL := 1) (ret := (some .long)) (by decide) rfl ?_
  intro p e s m args below meth c s₁ B hml hv
  obtain ⟨rfl, hsz, hP, hK⟩ := hv
  have hx := B.exec
  have hb := B.bytes
  have hr := B.returns
  have hts := atoms_spec (ws := w_SR_next) B.pre
  have htw := tail_ts hts
  have hown : s.vm.findClass R_SR = some m.cls := findClass_of_methodNamed B.named
  have hlocks := B.notSynchronized
  subst hsz
  have hl := lv_entry ([.ref h0]) (n := 1) (Nat.le_of_ble_eq_true rfl)
  rw [lg_entry_eq]
  generalize (lg_sl ([.ref h0]) ++ List.replicate (1 - (lg_sl ([.ref h0])).length) Slot.unset).toArray = ls at hl ⊢
  have hl : lv_has ls 1 [(0, .ref h0)] := hl
  have hD := d_one (h := h0) (e := .inr (1, [.long a, .long b, v])) (sz := s.heap.size)
  generalize hAe : va_A [(h0, .inr (1, [.long a, .long b, v]))] s.heap.size = A at hD ⊢
  have hA : ∀ q : Nat, s.heap.size ≤ q → A q := fun q h => by rw [← hAe]; exact Or.inr h
  have hS : va_S A s.heap s.heap [] := va_S.rf
  refine lv_aload_n hx hb d_SR_next_0 rfl (lv_at hl 0 rfl) ?_
  refine lv_dup hx hb d_SR_next_1 rfl ?_
  refine va_get (D := (dC, dI)) (ci := 1) (v := .long a) (C := R_SR) (T := F_SR) (N := 3) hx hb htw in_SR hown hK hP 0 rfl rfl 0 (by decide) (htw _ (wm 39 rfl)) (fun _ h9 => h9) rfl d_SR_next_2 ?_
  refine lv_aload_n hx hb d_SR_next_5 rfl (lv_at hl 0 rfl) ?_
  refine va_get (D := (dC, dI)) (ci := 1) (v := .long b) (C := R_SR) (T := F_SR) (N := 3) hx hb htw in_SR hown hK hP 0 rfl rfl 1 (by decide) (htw _ (wm 40 rfl)) (fun _ h9 => h9) rfl d_SR_next_6 ?_
  refine lv_ladd hx hb d_SR_next_9 ?_
  refine lv_dup2_x1_2 hx hb d_SR_next_10 rfl rfl ?_
  refine va_put (D := (dC, dI)) (ci := 1) (v := .long (a + b)) (ty := .long) (C := R_SR) (T := F_SR) (N := 3) hx hb htw in_SR t_SR t_SR_ok n_SR hown hK hP hD hS 0 rfl rfl 0 (by decide) (htw _ (wm 39 rfl)) (fun _ h9 => h9) rfl (by decide +kernel) rfl rfl (Nat.le_of_ble_eq_true rfl) d_SR_next_11 (fun H locs hP hD hS => ?_)
  have hP : va_P (dC, dI) kcls [(h0, .inr (1, [.long (a + b), .long b, v]))] H := hP
  have hD : va_D A [(h0, .inr (1, [.long (a + b), .long b, v]))] := hD
  exact W.lret hx hb hr (fun t ht hW => ⟨⟨_, (), rfl, rfl, atH ht hP⟩, hS.F ht⟩) hS.2.2 d_SR_next_14

-- SR_nextInt
set_option maxHeartbeats 4000000 in
theorem m_SR_nextInt (l : Launch) (dC : Nat → ClassId) (dI : Nat → Nat → Nat) (sz h0 : Nat) (a b : Int64) (v : Value) : Met l y_SR_nextInt w_SR_nextInt ({ frames := 1, cells := 0, slots := 0, locals := 21 }) (va_Pc [.ref h0] (fun U => U.heap.size = sz ∧ va_P (dC, dI) kcls [(h0, .inr (1, [.long a, .long b, v]))] U.heap ∧ va_K (dC, dI) kcls [] U)) (va_Qi (fun (r : Int32) (_ : Unit) => r = fm_32 (a + b)) (fun _ t => va_P (dC, dI) kcls [(h0, .inr (1, [.long (a + b), .long b, v]))] t.heap) (va_A [(h0, .inr (1, [.long a, .long b, v]))] sz)) 0 0 (va_A [(h0, .inr (1, [.long a, .long b, v]))] sz) := by
  refine Met.ofW (cc := b_SR_nextInt) (maxL := 1) (ret := (some .int)) (by decide) rfl ?_
  intro p e s m args below meth c s₁ B hml hv
  obtain ⟨rfl, hsz, hP, hK⟩ := hv
  have hx := B.exec
  have hb := B.bytes
  have hr := B.returns
  have hts := atoms_spec (ws := w_SR_nextInt) B.pre
  have htw := tail_ts hts
  have hown : s.vm.findClass R_SR = some m.cls := findClass_of_methodNamed B.named
  have hlocks := B.notSynchronized
  subst hsz
  have hl := lv_entry ([.ref h0]) (n := 1) (Nat.le_of_ble_eq_true rfl)
  rw [lg_entry_eq]
  generalize (lg_sl ([.ref h0]) ++ List.replicate (1 - (lg_sl ([.ref h0])).length) Slot.unset).toArray = ls at hl ⊢
  have hl : lv_has ls 1 [(0, .ref h0)] := hl
  have hD := d_one (h := h0) (e := .inr (1, [.long a, .long b, v])) (sz := s.heap.size)
  generalize hAe : va_A [(h0, .inr (1, [.long a, .long b, v]))] s.heap.size = A at hD ⊢
  have hA : ∀ q : Nat, s.heap.size ≤ q → A q := fun q h => by rw [← hAe]; exact Or.inr h
  have hS : va_S A s.heap s.heap [] := va_S.rf
  refine lv_aload_n hx hb d_SR_nextInt_0 rfl (lv_at hl 0 rfl) ?_
  have hF := jn_free (i := 0) (n := s.heap.size) hD rfl hA
  refine va_calll (va_runV (As := []) (rest := []) ⟨hx, hb, hml, hown, htw⟩ (m_SR_next l dC dI s.heap.size h0 a b v) (cwV 0 htw (gaV (wm 59 rfl) (wm 60 rfl) (wm 122 rfl) (wm 2 rfl) (wm 61 rfl)) rfl rfl rfl (by decide +kernel) ⟨Nat.le_of_ble_eq_true rfl, Nat.le_of_ble_eq_true rfl⟩) ⟨fun a U g mk q => ⟨q.1, q.2.1, q.2.2.1, fb_K q.2.2.2⟩, va_recv (q := (R_SR, F_SR, 3)) (q0 := 0) hK hP rfl rfl, fun U hU hW => ⟨rfl, congrArg Array.size hU, atH hU hP, va_K.moved hW.alike hK⟩⟩ rfl rfl hl.1 rfl (lv_room (Nat.le_of_ble_eq_true rfl)) d_SR_nextInt_1 ⟨Nat.le_of_ble_eq_true rfl, Nat.le_of_ble_eq_true rfl⟩) hS (fun q _ h => hF q h) hF (fun r u t H locs ht hvm hp hB hz1 hk1 hS => ?_)
  have hp : r = a + b := hp
  subst hp
  rw [ht] at hB
  refine va_calli (va_runS (As := [.long (a + b)]) (rest := []) ⟨hx, hb, hml, hown, htw⟩ (m_SR_mix32 l H.size (a + b)) (va_cwS 1 htw (gaS (wm 62 rfl) (wm 63 rfl) (wm 2 rfl) (wm 64 rfl)) rfl rfl rfl (by decide +kernel) ⟨Nat.le_of_ble_eq_true rfl, Nat.le_of_ble_eq_true rfl⟩) ⟨fun a U g mk q => q, fun U hU hW => ⟨rfl, congrArg Array.size hU⟩⟩ rfl rfl hl.1 rfl (lv_room (Nat.le_of_ble_eq_true rfl)) d_SR_nextInt_4 ⟨Nat.le_of_ble_eq_true rfl, Nat.le_of_ble_eq_true rfl⟩) hS (fun q _ h => hA q (Nat.le_trans hS.1 h)) (fun q h => hA q (Nat.le_trans hS.1 h)) (fun r u t H1 locs ht hvm hp _ hz1 hk1 hS => ?_)
  have hP := jn_keep hB hk1
  exact W.iret hx hb hr (fun t ht hW => ⟨⟨_, (), rfl, hp, atH ht hP⟩, hS.F ht⟩) hS.2.2 d_SR_nextInt_7

-- SR_nextLong
set_option maxHeartbeats 4000000 in
theorem m_SR_nextLong (l : Launch) (dC : Nat → ClassId) (dI : Nat → Nat → Nat) (sz h0 : Nat) (a b : Int64) (v : Value) : Met l y_SR_nextLong w_SR_nextLong ({ frames := 1, cells := 0, slots := 0, locals := 21 }) (va_Pc [.ref h0] (fun U => U.heap.size = sz ∧ va_P (dC, dI) kcls [(h0, .inr (1, [.long a, .long b, v]))] U.heap ∧ va_K (dC, dI) kcls [] U)) (va_Ql (fun (r : Int64) (_ : Unit) => r = fm_64 (a + b)) (fun _ t => va_P (dC, dI) kcls [(h0, .inr (1, [.long (a + b), .long b, v]))] t.heap) (va_A [(h0, .inr (1, [.long a, .long b, v]))] sz)) 0 0 (va_A [(h0, .inr (1, [.long a, .long b, v]))] sz) := by
  refine Met.ofW (cc := b_SR_nextLong) (maxL := 1) (ret := (some .long)) (by decide) rfl ?_
  intro p e s m args below meth c s₁ B hml hv
  obtain ⟨rfl, hsz, hP, hK⟩ := hv
  have hx := B.exec
  have hb := B.bytes
  have hr := B.returns
  have hts := atoms_spec (ws := w_SR_nextLong) B.pre
  have htw := tail_ts hts
  have hown : s.vm.findClass R_SR = some m.cls := findClass_of_methodNamed B.named
  have hlocks := B.notSynchronized
  subst hsz
  have hl := lv_entry ([.ref h0]) (n := 1) (Nat.le_of_ble_eq_true rfl)
  rw [lg_entry_eq]
  generalize (lg_sl ([.ref h0]) ++ List.replicate (1 - (lg_sl ([.ref h0])).length) Slot.unset).toArray = ls at hl ⊢
  have hl : lv_has ls 1 [(0, .ref h0)] := hl
  have hD := d_one (h := h0) (e := .inr (1, [.long a, .long b, v])) (sz := s.heap.size)
  generalize hAe : va_A [(h0, .inr (1, [.long a, .long b, v]))] s.heap.size = A at hD ⊢
  have hA : ∀ q : Nat, s.heap.size ≤ q → A q := fun q h => by rw [← hAe]; exact Or.inr h
  have hS : va_S A s.heap s.heap [] := va_S.rf
  refine lv_aload_n hx hb d_SR_nextLong_0 rfl (lv_at hl 0 rfl) ?_
  have hF := jn_free (i := 0) (n := s.heap.size) hD rfl hA
  refine va_calll (va_runV (As := []) (rest := []) ⟨hx, hb, hml, hown, htw⟩ (m_SR_next l dC dI s.heap.size h0 a b v) (cwV 0 htw (gaV (wm 59 rfl) (wm 60 rfl) (wm 122 rfl) (wm 2 rfl) (wm 61 rfl)) rfl rfl rfl (by decide +kernel) ⟨Nat.le_of_ble_eq_true rfl, Nat.le_of_ble_eq_true rfl⟩) ⟨fun a U g mk q => ⟨q.1, q.2.1, q.2.2.1, fb_K q.2.2.2⟩, va_recv (q := (R_SR, F_SR, 3)) (q0 := 0) hK hP rfl rfl, fun U hU hW => ⟨rfl, congrArg Array.size hU, atH hU hP, va_K.moved hW.alike hK⟩⟩ rfl rfl hl.1 rfl (lv_room (Nat.le_of_ble_eq_true rfl)) d_SR_nextLong_1 ⟨Nat.le_of_ble_eq_true rfl, Nat.le_of_ble_eq_true rfl⟩) hS (fun q _ h => hF q h) hF (fun r u t H locs ht hvm hp hB hz1 hk1 hS => ?_)
  have hp : r = a + b := hp
  subst hp
  rw [ht] at hB
  refine va_calll (va_runS (As := [.long (a + b)]) (rest := []) ⟨hx, hb, hml, hown, htw⟩ (m_SR_mix64 l H.size (a + b)) (va_cwS 1 htw (gaS (wm 75 rfl) (wm 76 rfl) (wm 2 rfl) (wm 77 rfl)) rfl rfl rfl (by decide +kernel) ⟨Nat.le_of_ble_eq_true rfl, Nat.le_of_ble_eq_true rfl⟩) ⟨fun a U g mk q => q, fun U hU hW => ⟨rfl, congrArg Array.size hU⟩⟩ rfl rfl hl.1 rfl (lv_room (Nat.le_of_ble_eq_true rfl)) d_SR_nextLong_4 ⟨Nat.le_of_ble_eq_true rfl, Nat.le_of_ble_eq_true rfl⟩) hS (fun q _ h => hA q (Nat.le_trans hS.1 h)) (fun q h => hA q (Nat.le_trans hS.1 h)) (fun r u t H1 locs ht hvm hp _ hz1 hk1 hS => ?_)
  have hP := jn_keep hB hk1
  exact W.lret hx hb hr (fun t ht hW => ⟨⟨_, (), rfl, hp, atH ht hP⟩, hS.F ht⟩) hS.2.2 d_SR_nextLong_7

-- split: a new generator; two steps of the old one
set_option maxHeartbeats 4000000 in
theorem m_SR_split (l : Launch) (dC : Nat → ClassId) (dI : Nat → Nat → Nat) (sz h0 : Nat) (a b : Int64) (v : Value) : Met l y_SR_split w_SR_split ({ frames := 5, cells := 2, slots := 4, locals := 97 }) (va_Pc [.ref h0] (fun U => U.heap.size = sz ∧ va_P (dC, dI) kcls [(h0, .inr (1, [.long a, .long b, v]))] U.heap ∧ va_K (dC, dI) kcls [] U ∧ va_Nw k_nest U)) (va_Qr (fun (_ : Nat) => True) (fun u ra t => va_P (dC, dI) kcls [(h0, .inr (1, [.long (a + b + b), .long b, v])), (ra, .inr (1, [.long (fm_64 (a + b)), .long (fm_g (a + b + b)), .ref u]))] t.heap ∧ sz ≤ ra) (va_A [(h0, .inr (1, [.long a, .long b, v]))] sz)) 2 4 (va_A [(h0, .inr (1, [.long a, .long b, v]))] sz) := by
  refine Met.ofW (cc := b_SR_split) (maxL := 1) (ret := (some (.object R_SR))) (by decide) rfl ?_
  intro p e s m args below meth c s₁ B hml hv
  obtain ⟨rfl, hsz, hP, hK, hN⟩ := hv
  have hx := B.exec
  have hb := B.bytes
  have hr := B.returns
  have hts := atoms_spec (ws := w_SR_split) B.pre
  have htw := tail_ts hts
  have hown : s.vm.findClass R_SR = some m.cls := findClass_of_methodNamed B.named
  have hlocks := B.notSynchronized
  subst hsz
  have hl := lv_entry ([.ref h0]) (n := 1) (Nat.le_of_ble_eq_true rfl)
  rw [lg_entry_eq]
  generalize (lg_sl ([.ref h0]) ++ List.replicate (1 - (lg_sl ([.ref h0])).length) Slot.unset).toArray = ls at hl ⊢
  have hl : lv_has ls 1 [(0, .ref h0)] := hl
  have hD := d_one (h := h0) (e := .inr (1, [.long a, .long b, v])) (sz := s.heap.size)
  generalize hAe : va_A [(h0, .inr (1, [.long a, .long b, v]))] s.heap.size = A at hD ⊢
  have hA : ∀ q : Nat, s.heap.size ≤ q → A q := fun q h => by rw [← hAe]; exact Or.inr h
  have hS : va_S A s.heap s.heap [] := va_S.rf
  refine va_new (ci := 1) (fs := [.long 0, .long 0, .null]) (C := R_SR) (T := F_SR) (N := 3) hx hb htw in_SR t_SR t_SR_ok hown (htw _ (wm 88 rfl)) (htw _ (wm 17 rfl)) (htw _ (wm 2 rfl)) hK hP hD hS hA rfl (fun j hj => by rcases (show j = 0 ∨ j = 1 ∨ j = 2 by omega) with rfl | rfl | rfl <;> rfl) (Nat.le_of_ble_eq_true rfl) (Nat.le_of_ble_eq_true rfl) d_SR_split_0 (fun q1 H hP hD hS => ?_)
  have hP : va_P (dC, dI) kcls [(h0, .inr (1, [.long a, .long b, v])), (q1, .inr (1, [.long 0, .long 0, .null]))] H := hP
  have hD : va_D A [(h0, .inr (1, [.long a, .long b, v])), (q1, .inr (1, [.long 0, .long 0, .null]))] := hD
  have hge : s.heap.size ≤ q1 := new_ge (i := 0) (j := 1) (by rw [hAe]; exact hD) rfl rfl (by decide)
  refine W.widen (k := 1) (n := 3) (by omega) (by omega) ?_
  refine lv_dup hx hb d_SR_split_3 rfl ?_
  refine lv_aload_n hx hb d_SR_split_4 rfl (lv_at hl 0 rfl) ?_
  have hPc := hP.sub (ws' := [(h0, .inr (1, [.long a, .long b, v]))]) [0] rfl
  have hA1 : ∀ q, H.size ≤ q → A q := fun q h => hA q (Nat.le_trans hS.1 h)
  have hF := jn_free (i := 0) (n := H.size) hD rfl hA1
  refine va_calll (va_runV (As := []) (rest := [.ref q1, .ref q1]) ⟨hx, hb, hml, hown, htw⟩ (m_SR_nextLong l dC dI H.size h0 a b v) (cwV 0 htw (gaV (wm 89 rfl) (wm 72 rfl) (wm 73 rfl) (wm 2 rfl) (wm 74 rfl)) rfl rfl rfl (by decide +kernel) ⟨Nat.le_of_ble_eq_true rfl, Nat.le_of_ble_eq_true rfl⟩) ⟨fun a U g mk q => ⟨q.1, q.2.1, q.2.2.1, fb_K q.2.2.2⟩, va_recv (q := (R_SR, F_SR, 3)) (q0 := 0) hK hP rfl rfl, fun U hU hW => ⟨rfl, congrArg Array.size hU, atH hU hPc, va_K.moved hW.alike hK⟩⟩ rfl rfl hl.1 rfl (lv_room (Nat.le_of_ble_eq_true rfl)) d_SR_split_5 ⟨Nat.le_of_ble_eq_true rfl, Nat.le_of_ble_eq_true rfl⟩) hS (fun q _ h => hF q h) hF (fun r u t H1 locs ht hvm hp hB hz1 hk1 hS => ?_)
  have hp : r = fm_64 (a + b) := hp
  subst hp
  rw [ht] at hB
  obtain ⟨hP, hD⟩ := jn_set0 hP hD (i := 0) rfl hk1 hA1 hB
  generalize H1 = H at hP hS ⊢
  have hP : va_P (dC, dI) kcls [(h0, .inr (1, [.long (a + b), .long b, v])), (q1, .inr (1, [.long 0, .long 0, .null]))] H := hP
  have hD : va_D A [(h0, .inr (1, [.long (a + b), .long b, v])), (q1, .inr (1, [.long 0, .long 0, .null]))] := hD
  refine lv_aload_n hx hb d_SR_split_8 rfl (lv_at hl 0 rfl) ?_
  have hPc := hP.sub (ws' := [(h0, .inr (1, [.long (a + b), .long b, v]))]) [0] rfl
  have hA1 : ∀ q, H.size ≤ q → A q := fun q h => hA q (Nat.le_trans hS.1 h)
  have hF := jn_free (i := 0) (n := H.size) hD rfl hA1
  refine va_calll (va_runV (As := []) (rest := [.long (fm_64 (a + b)), .ref q1, .ref q1]) ⟨hx, hb, hml, hown, htw⟩ (m_SR_next l dC dI H.size h0 (a + b) b v) (cwV 0 htw (gaV (wm 59 rfl) (wm 60 rfl) (wm 122 rfl) (wm 2 rfl) (wm 61 rfl)) rfl rfl rfl (by decide +kernel) ⟨Nat.le_of_ble_eq_true rfl, Nat.le_of_ble_eq_true rfl⟩) ⟨fun a U g mk q => ⟨q.1, q.2.1, q.2.2.1, fb_K q.2.2.2⟩, va_recv (q := (R_SR, F_SR, 3)) (q0 := 0) hK hP rfl rfl, fun U hU hW => ⟨rfl, congrArg Array.size hU, atH hU hPc, va_K.moved hW.alike hK⟩⟩ rfl rfl hl.1 rfl (lv_room (Nat.le_of_ble_eq_true rfl)) d_SR_split_9 ⟨Nat.le_of_ble_eq_true rfl, Nat.le_of_ble_eq_true rfl⟩) hS (fun q _ h => hF q h) hF (fun r u t H1 locs ht hvm hp hB hz1 hk1 hS => ?_)
  have hp : r = a + b + b := hp
  subst hp
  rw [ht] at hB
  obtain ⟨hP, hD⟩ := jn_set0 hP hD (i := 0) rfl hk1 hA1 hB
  generalize H1 = H at hP hS ⊢
  have hP : va_P (dC, dI) kcls [(h0, .inr (1, [.long (a + b + b), .long b, v])), (q1, .inr (1, [.long 0, .long 0, .null]))] H := hP
  have hD : va_D A [(h0, .inr (1, [.long (a + b + b), .long b, v])), (q1, .inr (1, [.long 0, .long 0, .null]))] := hD
  refine va_calll (va_runS (As := [.long (a + b + b)]) (rest := [.long (fm_64 (a + b)), .ref q1, .ref q1]) ⟨hx, hb, hml, hown, htw⟩ (m_SR_mixG l H.size (a + b + b)) (va_cwS 1 htw (gaS (wm 90 rfl) (wm 91 rfl) (wm 2 rfl) (wm 92 rfl)) rfl rfl rfl (by decide +kernel) ⟨Nat.le_of_ble_eq_true rfl, Nat.le_of_ble_eq_true rfl⟩) ⟨fun a U g mk q => q, fun U hU hW => ⟨rfl, congrArg Array.size hU⟩⟩ rfl rfl hl.1 rfl (lv_room (Nat.le_of_ble_eq_true rfl)) d_SR_split_12 ⟨Nat.le_of_ble_eq_true rfl, Nat.le_of_ble_eq_true rfl⟩) hS (fun q _ h => hA q (Nat.le_trans hS.1 h)) (fun q h => hA q (Nat.le_trans hS.1 h)) (fun r u t H1 locs ht hvm hp _ hz1 hk1 hS => ?_)
  have hp : r = fm_g (a + b + b) := hp
  subst hp
  have hP := jn_keep hP hk1
  generalize H1 = H at hP hS ⊢
  have hPc := hP.sub (ws' := [(q1, .inr (1, [.long 0, .long 0, .null]))]) [1] rfl
  have hA1 : ∀ q, H.size ≤ q → A q := fun q h => hA q (Nat.le_trans hS.1 h)
  have hF := jn_free (i := 1) (n := H.size) hD rfl hA1
  refine va_callv (va_runI (As := [.long (fm_64 (a + b)), .long (fm_g (a + b + b))]) (rest := [.ref q1]) ⟨hx, hb, hml, hown, htw⟩ (m_SR_initJJ l dC dI H.size q1 (fm_64 (a + b)) (fm_g (a + b + b))) (cwI 2 htw (gaI (wm 24 rfl)) rfl rfl rfl (htw _ (wm 2 rfl)) (htw _ (wm 22 rfl)) (htw _ (wm 23 rfl)) rfl (by decide +kernel) ⟨Nat.le_of_ble_eq_true rfl, Nat.le_of_ble_eq_true rfl⟩) ⟨fun a U g mk q => ⟨q.1, q.2.1, q.2.2.1, fb_K q.2.2.2.1, fb_N q.2.2.2.2⟩, fun U hU hW => ⟨rfl, congrArg Array.size hU, atH hU hPc, va_K.moved hW.alike hK, va_Nw.warmM hW hN⟩⟩ rfl rfl hl.1 rfl (lv_room (Nat.le_of_ble_eq_true rfl)) d_SR_split_15 ⟨Nat.le_of_ble_eq_true rfl, Nat.le_of_ble_eq_true rfl⟩) hS (fun q _ h => hF q h) hF (fun u t H1 locs ht hvm hp hB hz1 hk1 hS => ?_)
  rw [ht] at hB
  obtain ⟨hP, hD⟩ := jn_set0 hP hD (i := 1) rfl hk1 hA1 hB
  have hP : va_P (dC, dI) kcls [(h0, .inr (1, [.long (a + b + b), .long b, v])), (q1, .inr (1, [.long (fm_64 (a + b)), .long (fm_g (a + b + b)), .ref u]))] H1 := hP
  have hD : va_D A [(h0, .inr (1, [.long (a + b + b), .long b, v])), (q1, .inr (1, [.long (fm_64 (a + b)), .long (fm_g (a + b + b)), .ref u]))] := hD
  exact W.aret hx hb hr (Or.inl ⟨_, rfl⟩) (Or.inr ⟨_, rfl⟩) (fun t ht hW => ⟨⟨u, q1, rfl, trivial, atH ht hP, hge⟩, hS.F ht⟩) hS.2.2 d_SR_split_18
end
section
/-! the drill: four generators in an array: printed by wip/D-90558w/gen7.py -/
abbrev fa (ad : Nat → Nat) : Nat → Option Nat := fun j => some (ad j)
abbrev dr_a (cA : ClassId) (f : Nat → Option Nat) : va_E := .inl (cA, 4, .inr (.inr (.inr (.inr f))))
abbrev er (sd gm : Nat → Int64) (px : Nat → Value) (j : Nat) : va_E := .inr (1, [.long (sd j), .long (gm j), px j])
/-- the drill's world: the object, its array, the four generators -/
def dr_w (x ra : Nat) (cA : ClassId) (ad : Nat → Nat) (sd gm : Nat → Int64) (px : Nat → Value) : va_W := [(x, .inr (0, [.ref ra])), (ra, dr_a cA (fa ad)), (ad 0, er sd gm px 0), (ad 1, er sd gm px 1), (ad 2, er sd gm px 2), (ad 3, er sd gm px 3)]
theorem dr_get {x ra : Nat} {cA : ClassId} {ad : Nat → Nat} {sd gm : Nat → Int64} {px : Nat → Value} {k : Nat} (hk : k < 4) : (dr_w x ra cA ad sd gm px)[2 + k]? = some (ad k, er sd gm px k) :=
  co_4 (P := fun k => (dr_w x ra cA ad sd gm px)[2 + k]? = some (ad k, er sd gm px k)) rfl rfl rfl rfl hk
theorem dr_set {x ra : Nat} {cA : ClassId} {ad : Nat → Nat} {sd gm : Nat → Int64} {px : Nat → Value} {k : Nat} (hk : k < 4) (a b : Int64) (v : Value) : (dr_w x ra cA ad sd gm px).set (2 + k) (ad k, .inr (1, [.long a, .long b, v])) = dr_w x ra cA ad (vp_updL sd k a) (vp_updL gm k b) (va_up px k v) :=
  co_4 (P := fun k => (dr_w x ra cA ad sd gm px).set (2 + k) (ad k, .inr (1, [.long a, .long b, v])) = dr_w x ra cA ad (vp_updL sd k a) (vp_updL gm k b) (va_up px k v)) rfl rfl rfl rfl hk
theorem uL_self (f : Nat → Int64) (k : Nat) : vp_updL f k (f k) = f := by
  funext j
  unfold vp_updL
  by_cases h : j = k
  · rw [if_pos h, h]
  · rw [if_neg h]
theorem up_selfV (f : Nat → Value) (k : Nat) : va_up f k (f k) = f := by
  funext j
  unfold va_up
  by_cases h : j = k
  · rw [if_pos h, h]
  · rw [if_neg h]
theorem fa_up (ad : Nat → Nat) (k q : Nat) : va_up (fa ad) k (some q) = fa (va_up ad k q) := by
  funext j
  unfold va_up
  by_cases h : j = k
  · simp [fa, h]
  · simp [fa, h]
theorem dr_swap {x ra : Nat} {cA : ClassId} {ad : Nat → Nat} {sd gm : Nat → Int64} {px : Nat → Value} {k : Nat} (hk : k < 4) (nq : Nat) (a b : Int64) (v : Value) (j : Nat) (z : Nat × va_E)
    (hj : (dr_w x ra cA (va_up ad k nq) (vp_updL sd k a) (vp_updL gm k b) (va_up px k v))[j]? = some z) :
    ((dr_w x ra cA ad sd gm px ++ [(nq, (.inr (1, [.long a, .long b, v]) : va_E))]).set 1 (ra, dr_a cA (va_up (fa ad) k (some nq))))[if j = 2 + k then 6 else j]? = some z := by
  rw [fa_up]
  have hl : j < 6 := (List.getElem?_eq_some_iff.mp hj).1
  rw [← hj]
  rcases (show k = 0 ∨ k = 1 ∨ k = 2 ∨ k = 3 by omega) with rfl | rfl | rfl | rfl <;> rcases (show j = 0 ∨ j = 1 ∨ j = 2 ∨ j = 3 ∨ j = 4 ∨ j = 5 by omega) with rfl | rfl | rfl | rfl | rfl | rfl <;> rfl
theorem dr_inj {k : Nat} (hk : k < 4) (i j : Nat) (hi : i < 6) (hj : j < 6) (h : (if i = 2 + k then 6 else i) = (if j = 2 + k then 6 else j)) : i = j := by
  by_cases h1 : i = 2 + k <;> by_cases h2 : j = 2 + k
  · omega
  · rw [if_pos h1, if_neg h2] at h; omega
  · rw [if_neg h1, if_pos h2] at h; omega
  · rw [if_neg h1, if_neg h2] at h; exact h
theorem P_one {D : va_G} {cl : List vw_C} {ws : va_W} {H : Heap} {i : Nat} {q : Nat × va_E} (hP : va_P D cl ws H) (hi : ws[i]? = some q) : va_P D cl [q] H := by
  intro k z hz
  have h1 : k < 1 := (List.getElem?_eq_some_iff.mp hz).1
  have h0 : k = 0 := by omega
  subst h0
  cases hz
  exact hP i _ hi
theorem set_last {ws : va_W} {a b : Nat × va_E} : (ws ++ [a]).set ws.length b = ws ++ [b] := by simp
theorem arr_same {D : va_G} {cl : List vw_C} {w : Nat × va_E} {rest : va_W} {ra : Nat} {cA : ClassId} {f g : Nat → Option Nat} {H : Heap} (hP : va_P D cl (w :: (ra, dr_a cA f) :: rest) H) (h : ∀ j, j < 4 → f j = g j) : va_P D cl (w :: (ra, dr_a cA g) :: rest) H := by
  intro k q hk
  cases k with
  | zero => exact hP 0 q hk
  | succ k =>
    cases k with
    | zero =>
      cases hk
      have h1 : H[ra]? = some (vp_cell cA (4, .inr (.inr (.inr (.inr f))))) := hP 1 _ rfl
      show H[ra]? = some (vp_cell cA (4, .inr (.inr (.inr (.inr g)))))
      rw [h1, vp_cell_q, vp_cell_q]
      unfold arrV
      congr 2
      refine congrArg Array.ofFn ?_
      funext j
      show va_rf (f j.val) = va_rf (g j.val)
      rw [h j.val j.isLt]
    | succ k => exact hP (k + 2) q hk

-- SD_nextInt
set_option maxHeartbeats 4000000 in
theorem m_SD_nextInt (l : Launch) (dC : Nat → ClassId) (dI : Nat → Nat → Nat) (sz x ra : Nat) (cA : ClassId) (ad : Nat → Nat) (sd gm : Nat → Int64) (px : Nat → Value) (k : Nat) (hk : k < 4) : Met l y_SD_nextInt w_SD_nextInt ({ frames := 2, cells := 0, slots := 0, locals := 41 }) (va_Pc [.ref x, .int (nI k)] (fun U => U.heap.size = sz ∧ va_P (dC, dI) kcls (dr_w x ra cA ad sd gm px) U.heap ∧ va_K (dC, dI) kcls [(cA, .object R_SR)] U ∧ va_D (fun _ => True) (dr_w x ra cA ad sd gm px))) (va_Qi (fun (r : Int32) (_ : Unit) => r = fm_32 (sd k + gm k)) (fun _ t => va_P (dC, dI) kcls (dr_w x ra cA ad (vp_updL sd k (sd k + gm k)) gm px) t.heap ∧ va_D (va_A (dr_w x ra cA ad sd gm px) sz) (dr_w x ra cA ad (vp_updL sd k (sd k + gm k)) gm px)) (va_A (dr_w x ra cA ad sd gm px) sz)) 0 0 (va_A (dr_w x ra cA ad sd gm px) sz) := by
  refine Met.ofW (cc := b_SD_nextInt) (maxL := 2) (ret := (some .int)) (by decide) rfl ?_
  intro p e s m args below meth c s₁ B hml hv
  obtain ⟨rfl, hsz, hP, hK, hD0⟩ := hv
  have hx := B.exec
  have hb := B.bytes
  have hr := B.returns
  have hts := atoms_spec (ws := w_SD_nextInt) B.pre
  have htw := tail_ts hts
  have hown : s.vm.findClass R_SD = some m.cls := findClass_of_methodNamed B.named
  have hlocks := B.notSynchronized
  subst hsz
  have hl := lv_entry ([.ref x, .int (nI k)]) (n := 2) (Nat.le_of_ble_eq_true rfl)
  rw [lg_entry_eq]
  generalize (lg_sl ([.ref x, .int (nI k)]) ++ List.replicate (2 - (lg_sl ([.ref x, .int (nI k)])).length) Slot.unset).toArray = ls at hl ⊢
  have hl : lv_has ls 2 [(0, .ref x), (1, .int (nI k))] := hl
  have hD := hD0.self (sz := s.heap.size)
  generalize hAe : va_A (dr_w x ra cA ad sd gm px) s.heap.size = A at hD ⊢
  have hA : ∀ q : Nat, s.heap.size ≤ q → A q := fun q h => by rw [← hAe]; exact Or.inr h
  have hS : va_S A s.heap s.heap [] := va_S.rf
  have hK0 := hK.sub (tys' := []) [] rfl
  have hck : (nI k).toNatClampNeg = k := nI_clamp (by omega)
  refine lv_aload_n hx hb d_SD_nextInt_0 rfl (lv_at hl 0 rfl) ?_
  refine va_get (D := (dC, dI)) (ci := 0) (v := .ref ra) (C := R_SD) (T := F_SD) (N := 1) hx hb htw in_SD hown hK hP 0 rfl rfl 0 (by decide) (htw _ (wm 45 rfl)) (fun _ h9 => h9) rfl d_SD_nextInt_1 ?_
  refine lv_iload_n hx hb d_SD_nextInt_4 rfl (lv_at hl 1 rfl) ?_
  refine va_aldq hx hb hK hP 1 0 rfl rfl (vp_in_nI (by omega) (by decide)) d_SD_nextInt_5 ?_
  refine W.eq (g2 := F0 m 6 ls (.ref (ad k) :: [])) (congrArg (fun j => F0 m 6 ls (.ref (ad j) :: [])) hck) ?_
  have hF := jn_free (i := 2 + k) (n := s.heap.size) hD (dr_get hk) hA
  refine va_calli (va_runV (As := []) (rest := []) ⟨hx, hb, hml, hown, htw⟩ (m_SR_nextInt l dC dI s.heap.size (ad k) (sd k) (gm k) (px k)) (cwV 0 htw (gaV (wm 55 rfl) (wm 56 rfl) (wm 57 rfl) (wm 2 rfl) (wm 58 rfl)) rfl rfl rfl (by decide +kernel) ⟨Nat.le_of_ble_eq_true rfl, Nat.le_of_ble_eq_true rfl⟩) ⟨fun a U g mk q => ⟨q.1, q.2.1, q.2.2.1, fb_K q.2.2.2⟩, va_recv (q := (R_SR, F_SR, 3)) (q0 := 2 + k) hK hP rfl (dr_get hk), fun U hU hW => ⟨rfl, congrArg Array.size hU, atH hU (P_one hP (dr_get hk)), va_K.moved hW.alike hK0⟩⟩ rfl rfl hl.1 rfl (lv_room (Nat.le_of_ble_eq_true rfl)) d_SD_nextInt_6 ⟨Nat.le_of_ble_eq_true rfl, Nat.le_of_ble_eq_true rfl⟩) hS (fun q _ h => hF q h) hF (fun r u t H locs ht hvm hp hB hz1 hk1 hS => ?_)
  rw [ht] at hB
  obtain ⟨hP, hD⟩ := jn_set0 hP hD (dr_get hk) hk1 hA hB
  rw [dr_set hk, uL_self, up_selfV] at hP hD
  exact W.iret hx hb hr (fun t ht hW => ⟨⟨_, (), rfl, hp, atH ht hP, hD⟩, hS.F ht⟩) hS.2.2 d_SD_nextInt_9

-- SD_nextLong
set_option maxHeartbeats 4000000 in
theorem m_SD_nextLong (l : Launch) (dC : Nat → ClassId) (dI : Nat → Nat → Nat) (sz x ra : Nat) (cA : ClassId) (ad : Nat → Nat) (sd gm : Nat → Int64) (px : Nat → Value) (k : Nat) (hk : k < 4) : Met l y_SD_nextLong w_SD_nextLong ({ frames := 2, cells := 0, slots := 0, locals := 41 }) (va_Pc [.ref x, .int (nI k)] (fun U => U.heap.size = sz ∧ va_P (dC, dI) kcls (dr_w x ra cA ad sd gm px) U.heap ∧ va_K (dC, dI) kcls [(cA, .object R_SR)] U ∧ va_D (fun _ => True) (dr_w x ra cA ad sd gm px))) (va_Ql (fun (r : Int64) (_ : Unit) => r = fm_64 (sd k + gm k)) (fun _ t => va_P (dC, dI) kcls (dr_w x ra cA ad (vp_updL sd k (sd k + gm k)) gm px) t.heap ∧ va_D (va_A (dr_w x ra cA ad sd gm px) sz) (dr_w x ra cA ad (vp_updL sd k (sd k + gm k)) gm px)) (va_A (dr_w x ra cA ad sd gm px) sz)) 0 0 (va_A (dr_w x ra cA ad sd gm px) sz) := by
  refine Met.ofW (cc := b_SD_nextLong) (maxL := 2) (ret := (some .long)) (by decide) rfl ?_
  intro p e s m args below meth c s₁ B hml hv
  obtain ⟨rfl, hsz, hP, hK, hD0⟩ := hv
  have hx := B.exec
  have hb := B.bytes
  have hr := B.returns
  have hts := atoms_spec (ws := w_SD_nextLong) B.pre
  have htw := tail_ts hts
  have hown : s.vm.findClass R_SD = some m.cls := findClass_of_methodNamed B.named
  have hlocks := B.notSynchronized
  subst hsz
  have hl := lv_entry ([.ref x, .int (nI k)]) (n := 2) (Nat.le_of_ble_eq_true rfl)
  rw [lg_entry_eq]
  generalize (lg_sl ([.ref x, .int (nI k)]) ++ List.replicate (2 - (lg_sl ([.ref x, .int (nI k)])).length) Slot.unset).toArray = ls at hl ⊢
  have hl : lv_has ls 2 [(0, .ref x), (1, .int (nI k))] := hl
  have hD := hD0.self (sz := s.heap.size)
  generalize hAe : va_A (dr_w x ra cA ad sd gm px) s.heap.size = A at hD ⊢
  have hA : ∀ q : Nat, s.heap.size ≤ q → A q := fun q h => by rw [← hAe]; exact Or.inr h
  have hS : va_S A s.heap s.heap [] := va_S.rf
  have hK0 := hK.sub (tys' := []) [] rfl
  have hck : (nI k).toNatClampNeg = k := nI_clamp (by omega)
  refine lv_aload_n hx hb d_SD_nextLong_0 rfl (lv_at hl 0 rfl) ?_
  refine va_get (D := (dC, dI)) (ci := 0) (v := .ref ra) (C := R_SD) (T := F_SD) (N := 1) hx hb htw in_SD hown hK hP 0 rfl rfl 0 (by decide) (htw _ (wm 45 rfl)) (fun _ h9 => h9) rfl d_SD_nextLong_1 ?_
  refine lv_iload_n hx hb d_SD_nextLong_4 rfl (lv_at hl 1 rfl) ?_
  refine va_aldq hx hb hK hP 1 0 rfl rfl (vp_in_nI (by omega) (by decide)) d_SD_nextLong_5 ?_
  refine W.eq (g2 := F0 m 6 ls (.ref (ad k) :: [])) (congrArg (fun j => F0 m 6 ls (.ref (ad j) :: [])) hck) ?_
  have hF := jn_free (i := 2 + k) (n := s.heap.size) hD (dr_get hk) hA
  refine va_calll (va_runV (As := []) (rest := []) ⟨hx, hb, hml, hown, htw⟩ (m_SR_nextLong l dC dI s.heap.size (ad k) (sd k) (gm k) (px k)) (cwV 0 htw (gaV (wm 71 rfl) (wm 72 rfl) (wm 73 rfl) (wm 2 rfl) (wm 74 rfl)) rfl rfl rfl (by decide +kernel) ⟨Nat.le_of_ble_eq_true rfl, Nat.le_of_ble_eq_true rfl⟩) ⟨fun a U g mk q => ⟨q.1, q.2.1, q.2.2.1, fb_K q.2.2.2⟩, va_recv (q := (R_SR, F_SR, 3)) (q0 := 2 + k) hK hP rfl (dr_get hk), fun U hU hW => ⟨rfl, congrArg Array.size hU, atH hU (P_one hP (dr_get hk)), va_K.moved hW.alike hK0⟩⟩ rfl rfl hl.1 rfl (lv_room (Nat.le_of_ble_eq_true rfl)) d_SD_nextLong_6 ⟨Nat.le_of_ble_eq_true rfl, Nat.le_of_ble_eq_true rfl⟩) hS (fun q _ h => hF q h) hF (fun r u t H locs ht hvm hp hB hz1 hk1 hS => ?_)
  rw [ht] at hB
  obtain ⟨hP, hD⟩ := jn_set0 hP hD (dr_get hk) hk1 hA hB
  rw [dr_set hk, uL_self, up_selfV] at hP hD
  exact W.lret hx hb hr (fun t ht hW => ⟨⟨_, (), rfl, hp, atH ht hP, hD⟩, hS.F ht⟩) hS.2.2 d_SD_nextLong_9

-- seed(k, a): a new generator stands at k
set_option maxHeartbeats 4000000 in
theorem m_SD_seed (l : Launch) (dC : Nat → ClassId) (dI : Nat → Nat → Nat) (sz x ra : Nat) (cA : ClassId) (ad : Nat → Nat) (sd gm : Nat → Int64) (px : Nat → Value) (k : Nat) (hk : k < 4) (a : Int64) : Met l y_SD_seed w_SD_seed ({ frames := 6, cells := 2, slots := 4, locals := 119 }) (va_Pc [.ref x, .int (nI k), .long a] (fun U => U.heap.size = sz ∧ va_P (dC, dI) kcls (dr_w x ra cA ad sd gm px) U.heap ∧ va_K (dC, dI) kcls [(cA, .object R_SR)] U ∧ va_D (fun _ => True) (dr_w x ra cA ad sd gm px) ∧ va_Nw k_nest U)) (va_Qv (fun (_ : Nat × Value) => True) (fun u t => va_P (dC, dI) kcls (dr_w x ra cA (va_up ad k u.1) (vp_updL sd k a) (vp_updL gm k (-7046029254386353131)) (va_up px k u.2)) t.heap ∧ va_D (va_A (dr_w x ra cA ad sd gm px) sz) (dr_w x ra cA (va_up ad k u.1) (vp_updL sd k a) (vp_updL gm k (-7046029254386353131)) (va_up px k u.2))) (va_A (dr_w x ra cA ad sd gm px) sz)) 2 4 (va_A (dr_w x ra cA ad sd gm px) sz) := by
  refine Met.ofW (cc := b_SD_seed) (maxL := 4) (ret := none) (by decide) rfl ?_
  intro p e s m args below meth c s₁ B hml hv
  obtain ⟨rfl, hsz, hP, hK, hD0, hN⟩ := hv
  have hx := B.exec
  have hb := B.bytes
  have hr := B.returns
  have hts := atoms_spec (ws := w_SD_seed) B.pre
  have htw := tail_ts hts
  have hown : s.vm.findClass R_SD = some m.cls := findClass_of_methodNamed B.named
  have hlocks := B.notSynchronized
  subst hsz
  have hl := lv_entry ([.ref x, .int (nI k), .long a]) (n := 4) (Nat.le_of_ble_eq_true rfl)
  rw [lg_entry_eq]
  generalize (lg_sl ([.ref x, .int (nI k), .long a]) ++ List.replicate (4 - (lg_sl ([.ref x, .int (nI k), .long a])).length) Slot.unset).toArray = ls at hl ⊢
  have hl : lv_has ls 4 [(0, .ref x), (1, .int (nI k)), (2, .long a)] := hl
  have hD := hD0.self (sz := s.heap.size)
  generalize hAe : va_A (dr_w x ra cA ad sd gm px) s.heap.size = A at hD ⊢
  have hA : ∀ q : Nat, s.heap.size ≤ q → A q := fun q h => by rw [← hAe]; exact Or.inr h
  have hS : va_S A s.heap s.heap [] := va_S.rf
  have hK0 := hK.sub (tys' := []) [] rfl
  have hck : (nI k).toNatClampNeg = k := nI_clamp (by omega)
  refine lv_aload_n hx hb d_SD_seed_0 rfl (lv_at hl 0 rfl) ?_
  refine va_get (D := (dC, dI)) (ci := 0) (v := .ref ra) (C := R_SD) (T := F_SD) (N := 1) hx hb htw in_SD hown hK hP 0 rfl rfl 0 (by decide) (htw _ (wm 45 rfl)) (fun _ h9 => h9) rfl d_SD_seed_1 ?_
  refine lv_iload_n hx hb d_SD_seed_4 rfl (lv_at hl 1 rfl) ?_
  refine va_new (ci := 1) (fs := [.long 0, .long 0, .null]) (C := R_SR) (T := F_SR) (N := 3) hx hb htw in_SR t_SR t_SR_ok hown (htw _ (wm 16 rfl)) (htw _ (wm 17 rfl)) (htw _ (wm 2 rfl)) hK hP hD hS hA rfl (fun j hj => by rcases (show j = 0 ∨ j = 1 ∨ j = 2 by omega) with rfl | rfl | rfl <;> rfl) (Nat.le_of_ble_eq_true rfl) (Nat.le_of_ble_eq_true rfl) d_SD_seed_5 (fun nq H hP hD hS => ?_)
  refine lv_dup hx hb d_SD_seed_8 rfl ?_
  refine lv_lload_n hx hb d_SD_seed_9 rfl (lv_at hl 2 rfl) ?_
  have hA1 : ∀ q, H.size ≤ q → A q := fun q h => hA q (Nat.le_trans hS.1 h)
  have hF := jn_free (i := 6) (n := H.size) hD rfl hA1
  refine va_callv (va_runI (As := [.long a]) (rest := [.ref nq, .int (nI k), .ref ra]) ⟨hx, hb, hml, hown, htw⟩ (m_SR_initJ l dC dI H.size nq a) (cwI 1 htw (gaI (wm 20 rfl)) rfl rfl rfl (htw _ (wm 2 rfl)) (htw _ (wm 18 rfl)) (htw _ (wm 19 rfl)) rfl (by decide +kernel) ⟨Nat.le_of_ble_eq_true rfl, Nat.le_of_ble_eq_true rfl⟩) ⟨fun a U g mk q => ⟨q.1, q.2.1, q.2.2.1, fb_K q.2.2.2.1, fb_N q.2.2.2.2⟩, fun U hU hW => ⟨rfl, congrArg Array.size hU, atH hU (P_one (i := 6) hP rfl), va_K.moved hW.alike hK0, va_Nw.warmM hW hN⟩⟩ rfl rfl hl.1 rfl (lv_room (Nat.le_of_ble_eq_true rfl)) d_SD_seed_10 ⟨Nat.le_of_ble_eq_true rfl, Nat.le_of_ble_eq_true rfl⟩) hS (fun q _ h => hF q h) hF (fun v t H1 locs ht hvm hp hB hz1 hk1 hS => ?_)
  rw [ht] at hB
  obtain ⟨hP, hD⟩ := jn_set0 hP hD (i := 6) rfl hk1 hA1 hB
  have hP : va_P (dC, dI) kcls (dr_w x ra cA ad sd gm px ++ [(nq, .inr (1, [.long a, .long (-7046029254386353131), .ref v]))]) H1 := hP
  have hD : va_D A (dr_w x ra cA ad sd gm px ++ [(nq, .inr (1, [.long a, .long (-7046029254386353131), .ref v]))]) := hD
  refine va_astq (r := (R_SR, F_SR, 3)) hx hb hK hP hD hS 1 0 6 1 rfl rfl rfl rfl (vp_in_nI (by omega) (by decide)) d_SD_seed_13 (fun H locs hP hD hS => ?_)
  rw [hck] at hP hD
  have hP := hP.by _ (dr_swap hk nq a (-7046029254386353131) (.ref v))
  have hD := hD.by _ (dr_swap hk nq a (-7046029254386353131) (.ref v)) (fun i j hi hj => dr_inj hk i j hi hj)
  exact W.vret hx hb hr (fun t ht hW => ⟨⟨(nq, .ref v), rfl, trivial, atH ht hP, hD⟩, hS.F ht⟩) hS.2.2 d_SD_seed_14

-- split(k, i): a child of generator i stands at k
set_option maxHeartbeats 4000000 in
theorem m_SD_split (l : Launch) (dC : Nat → ClassId) (dI : Nat → Nat → Nat) (sz x ra : Nat) (cA : ClassId) (ad : Nat → Nat) (sd gm : Nat → Int64) (px : Nat → Value) (k i : Nat) (hk : k < 4) (hi : i < 4) : Met l y_SD_split w_SD_split ({ frames := 6, cells := 2, slots := 4, locals := 117 }) (va_Pc [.ref x, .int (nI k), .int (nI i)] (fun U => U.heap.size = sz ∧ va_P (dC, dI) kcls (dr_w x ra cA ad sd gm px) U.heap ∧ va_K (dC, dI) kcls [(cA, .object R_SR)] U ∧ va_D (fun _ => True) (dr_w x ra cA ad sd gm px) ∧ va_Nw k_nest U)) (va_Qv (fun (_ : Nat × Value) => True) (fun u t => va_P (dC, dI) kcls (dr_w x ra cA (va_up ad k u.1) (vp_updL (vp_updL sd i (sd i + gm i + gm i)) k (fm_64 (sd i + gm i))) (vp_updL gm k (fm_g (sd i + gm i + gm i))) (va_up px k u.2)) t.heap ∧ va_D (va_A (dr_w x ra cA ad sd gm px) sz) (dr_w x ra cA (va_up ad k u.1) (vp_updL (vp_updL sd i (sd i + gm i + gm i)) k (fm_64 (sd i + gm i))) (vp_updL gm k (fm_g (sd i + gm i + gm i))) (va_up px k u.2))) (va_A (dr_w x ra cA ad sd gm px) sz)) 2 4 (va_A (dr_w x ra cA ad sd gm px) sz) := by
  refine Met.ofW (cc := b_SD_split) (maxL := 3) (ret := none) (by decide) rfl ?_
  intro p e s m args below meth c s₁ B hml hv
  obtain ⟨rfl, hsz, hP, hK, hD0, hN⟩ := hv
  have hx := B.exec
  have hb := B.bytes
  have hr := B.returns
  have hts := atoms_spec (ws := w_SD_split) B.pre
  have htw := tail_ts hts
  have hown : s.vm.findClass R_SD = some m.cls := findClass_of_methodNamed B.named
  have hlocks := B.notSynchronized
  subst hsz
  have hl := lv_entry ([.ref x, .int (nI k), .int (nI i)]) (n := 3) (Nat.le_of_ble_eq_true rfl)
  rw [lg_entry_eq]
  generalize (lg_sl ([.ref x, .int (nI k), .int (nI i)]) ++ List.replicate (3 - (lg_sl ([.ref x, .int (nI k), .int (nI i)])).length) Slot.unset).toArray = ls at hl ⊢
  have hl : lv_has ls 3 [(0, .ref x), (1, .int (nI k)), (2, .int (nI i))] := hl
  have hD := hD0.self (sz := s.heap.size)
  generalize hAe : va_A (dr_w x ra cA ad sd gm px) s.heap.size = A at hD ⊢
  have hA : ∀ q : Nat, s.heap.size ≤ q → A q := fun q h => by rw [← hAe]; exact Or.inr h
  have hS : va_S A s.heap s.heap [] := va_S.rf
  have hK0 := hK.sub (tys' := []) [] rfl
  have hck : (nI k).toNatClampNeg = k := nI_clamp (by omega)
  have hci : (nI i).toNatClampNeg = i := nI_clamp (by omega)
  refine lv_aload_n hx hb d_SD_split_0 rfl (lv_at hl 0 rfl) ?_
  refine va_get (D := (dC, dI)) (ci := 0) (v := .ref ra) (C := R_SD) (T := F_SD) (N := 1) hx hb htw in_SD hown hK hP 0 rfl rfl 0 (by decide) (htw _ (wm 45 rfl)) (fun _ h9 => h9) rfl d_SD_split_1 ?_
  refine lv_iload_n hx hb d_SD_split_4 rfl (lv_at hl 1 rfl) ?_
  refine lv_aload_n hx hb d_SD_split_5 rfl (lv_at hl 0 rfl) ?_
  refine va_get (D := (dC, dI)) (ci := 0) (v := .ref ra) (C := R_SD) (T := F_SD) (N := 1) hx hb htw in_SD hown hK hP 0 rfl rfl 0 (by decide) (htw _ (wm 45 rfl)) (fun _ h9 => h9) rfl d_SD_split_6 ?_
  refine lv_iload_n hx hb d_SD_split_9 rfl (lv_at hl 2 rfl) ?_
  refine va_aldq hx hb hK hP 1 0 rfl rfl (vp_in_nI (by omega) (by decide)) d_SD_split_10 ?_
  refine W.eq (g2 := F0 m 11 ls (.ref (ad i) :: [.int (nI k), .ref ra])) (congrArg (fun j => F0 m 11 ls (.ref (ad j) :: [.int (nI k), .ref ra])) hci) ?_
  have hF := jn_free (i := 2 + i) (n := s.heap.size) hD (dr_get hi) hA
  refine va_callr (va_runV (As := []) (rest := [.int (nI k), .ref ra]) ⟨hx, hb, hml, hown, htw⟩ (m_SR_split l dC dI s.heap.size (ad i) (sd i) (gm i) (px i)) (cwV 0 htw (gaV (wm 84 rfl) (wm 85 rfl) (wm 86 rfl) (wm 2 rfl) (wm 87 rfl)) rfl rfl rfl (by decide +kernel) ⟨Nat.le_of_ble_eq_true rfl, Nat.le_of_ble_eq_true rfl⟩) ⟨fun a U g mk q => ⟨q.1, q.2.1, q.2.2.1, fb_K q.2.2.2.1, fb_N q.2.2.2.2⟩, va_recv (q := (R_SR, F_SR, 3)) (q0 := 2 + i) hK hP rfl (dr_get hi), fun U hU hW => ⟨rfl, congrArg Array.size hU, atH hU (P_one hP (dr_get hi)), va_K.moved hW.alike hK0, va_Nw.warmM hW hN⟩⟩ rfl rfl hl.1 rfl (lv_room (Nat.le_of_ble_eq_true rfl)) d_SD_split_11 ⟨Nat.le_of_ble_eq_true rfl, Nat.le_of_ble_eq_true rfl⟩) hS (fun q _ h => hF q h) hF (fun v nq t H locs ht hvm hp hB hz1 hk1 hS => ?_)
  obtain ⟨hB, hge⟩ := hB
  rw [ht] at hB
  obtain ⟨hP, hD⟩ := jn_set hP hD (dr_get hi) hk1 hA hB (d_new hge)
  rw [dr_set hi, uL_self, up_selfV] at hP hD
  refine va_astq (r := (R_SR, F_SR, 3)) hx hb hK hP hD hS 1 0 6 1 rfl rfl rfl rfl (vp_in_nI (by omega) (by decide)) d_SD_split_14 (fun H locs hP hD hS => ?_)
  rw [hck] at hP hD
  have hP := hP.by _ (dr_swap hk nq _ _ (.ref v))
  have hD := hD.by _ (dr_swap hk nq _ _ (.ref v)) (fun i j hi hj => dr_inj hk i j hi hj)
  exact W.vret hx hb hr (fun t ht hW => ⟨⟨(nq, .ref v), rfl, trivial, atH ht hP, hD⟩, hS.F ht⟩) hS.2.2 d_SD_split_15

section TU
variable {p : Program} {l : Launch} {e : Env} {R : Room} {s : State} {m : MethodId} {args : Array Value} {below : List Frame} {meth : Method} {c : Code} {H : Heap} {locs : List Loc} {cells slots : Nat} {Q : State → Prop}
variable {dC : Nat → ClassId} {dI : Nat → Nat → Nat} {A : Nat → Prop} {H0 : Heap} {cA : ClassId}
/-- one turn of the constructor's loop: a new generator of seed i stands at i -/
theorem sd_turn (hx : p.tables.exec = Jvm.exec) (hb : c.code = b_SD_init) (hml : c.maxLocals = 2) (hown : s.vm.findClass R_SD = some m.cls) (htw : ∀ w ∈ W_all, w.before args s = true) (hK : va_K (dC, dI) kcls [(cA, .object R_SR)] s) (hN : va_Nw k_nest s) (hA : ∀ q, H0.size ≤ q → A q)
    (hfr : 6 ≤ R.frames) (hlo : 119 ≤ R.locals) (i : Nat) (hi : i < 4) (ws : va_W) (x ra : Nat) (f : Nat → Option Nat) (h0 : ws[0]? = some (x, .inr (0, [.ref ra]))) (h1 : ws[1]? = some (ra, dr_a cA f)) (hc : cells + 2 ≤ R.cells) (hs : slots + 4 ≤ R.slots)
    (ls : Array Slot) (hl : lv_has ls 2 [(0, .ref x), (1, .int (nI i))]) (hP : va_P (dC, dI) kcls ws H) (hD : va_D A ws) (hS : va_S A H0 H locs)
    (kk : ∀ (ls : Array Slot) (H1 : Heap) (locs1 : List Loc) (nq v : Nat), lv_has ls 2 [(0, .ref x), (1, .int (nI (i + 1)))] → va_P (dC, dI) kcls ((ws ++ [(nq, (.inr (1, [.long (lN i), .long (-7046029254386353131), .ref v]) : va_E))]).set 1 (ra, dr_a cA (va_up f i (some nq)))) H1 → va_D A ((ws ++ [(nq, (.inr (1, [.long (lN i), .long (-7046029254386353131), .ref v]) : va_E))]).set 1 (ra, dr_a cA (va_up f i (some nq)))) → va_S A H0 H1 locs1 → W p l e R s m args below meth c H1 locs1 (cells + 2) (slots + 4) Q (F0 m 14 ls [])) :
    W p l e R s m args below meth c H locs cells slots Q (F0 m 14 ls []) := by
  have hK0 := hK.sub (tys' := []) [] rfl
  have hl0 : 0 < ws.length := (List.getElem?_eq_some_iff.mp h0).1
  have hl1 : 1 < ws.length := (List.getElem?_eq_some_iff.mp h1).1
  have hci : (nI i).toNatClampNeg = i := nI_clamp (by omega)

  refine lv_iload_n hx hb d_SD_init_14 rfl (lv_at hl 1 rfl) ?_
  refine lv_iconst (v := 4) hx hb d_SD_init_15 (by decide) ?_
  refine lv_icmp_ge (tgt := 40) hx hb d_SD_init_16 (by decide) (fun hc => absurd hc (nI_ge (a := i) (b := 4) (by omega) (by decide))) (fun hc9 => ?_)
  refine lv_aload_n hx hb d_SD_init_19 rfl (lv_at hl 0 rfl) ?_
  refine va_get (D := (dC, dI)) (ci := 0) (v := .ref ra) (C := R_SD) (T := F_SD) (N := 1) hx hb htw in_SD hown hK hP 0 h0 rfl 0 (by decide) (htw _ (wm 45 rfl)) (fun _ h9 => h9) rfl d_SD_init_20 ?_
  refine lv_iload_n hx hb d_SD_init_23 rfl (lv_at hl 1 rfl) ?_
  refine va_new (ci := 1) (fs := [.long 0, .long 0, .null]) (C := R_SR) (T := F_SR) (N := 3) hx hb htw in_SR t_SR t_SR_ok hown (htw _ (wm 16 rfl)) (htw _ (wm 17 rfl)) (htw _ (wm 2 rfl)) hK hP hD hS hA rfl (fun j hj => by rcases (show j = 0 ∨ j = 1 ∨ j = 2 by omega) with rfl | rfl | rfl <;> rfl) (by omega) (by omega) d_SD_init_24 (fun nq H hP hD hS => ?_)
  refine lv_dup hx hb d_SD_init_27 rfl ?_
  refine lv_iload_n hx hb d_SD_init_28 rfl (lv_at hl 1 rfl) ?_
  refine lv_i2l (v := lN i) hx hb d_SD_init_29 (nI_l (by omega)) ?_
  have hA1 : ∀ q, H.size ≤ q → A q := fun q h => hA q (Nat.le_trans hS.1 h)
  have hlast : (ws ++ [(nq, (.inr (1, [.long 0, .long 0, .null]) : va_E))])[ws.length]? = some (nq, .inr (1, [.long 0, .long 0, .null])) := by simp
  have hF := jn_free (i := ws.length) (n := H.size) hD hlast hA1
  refine va_callv (va_runI (As := [.long (lN i)]) (rest := [.ref nq, .int (nI i), .ref ra]) ⟨hx, hb, hml, hown, htw⟩ (m_SR_initJ l dC dI H.size nq (lN i)) (cwI 1 htw (gaI (wm 20 rfl)) rfl rfl rfl (htw _ (wm 2 rfl)) (htw _ (wm 18 rfl)) (htw _ (wm 19 rfl)) rfl (by decide +kernel) ⟨hfr, hlo⟩) ⟨fun a U g mk q => ⟨q.1, q.2.1, q.2.2.1, fb_K q.2.2.2.1, fb_N q.2.2.2.2⟩, fun U hU hW => ⟨rfl, congrArg Array.size hU, atH hU (P_one hP hlast), va_K.moved hW.alike hK0, va_Nw.warmM hW hN⟩⟩ rfl rfl hl.1 rfl (lv_room (Nat.le_of_ble_eq_true rfl)) d_SD_init_30 ⟨by omega, by omega⟩) hS (fun q _ h => hF q h) hF (fun v t H1 locs ht hvm hp hB hz1 hk1 hS => ?_)
  rw [ht] at hB
  obtain ⟨hP, hD⟩ := jn_set0 hP hD hlast hk1 hA1 hB
  rw [set_last] at hP hD
  have k1 : (ws ++ [(nq, (.inr (1, [.long (lN i), .long (-7046029254386353131), .ref v]) : va_E))])[1]? = some (ra, dr_a cA f) := by rw [List.getElem?_append_left hl1]; exact h1
  have k2 : (ws ++ [(nq, (.inr (1, [.long (lN i), .long (-7046029254386353131), .ref v]) : va_E))])[ws.length]? = some (nq, .inr (1, [.long (lN i), .long (-7046029254386353131), .ref v])) := by simp
  refine va_astq (r := (R_SR, F_SR, 3)) hx hb hK hP hD hS 1 0 ws.length 1 k1 rfl k2 rfl (vp_in_nI (by omega) (by decide)) d_SD_init_33 (fun H locs hP hD hS => ?_)
  rw [hci] at hP hD
  refine lv_iinc (k := 1) (v := nI (i + 1)) hx hb d_SD_init_34 hl rfl (nI_1 i) (by decide) rfl (fun ls hl => ?_)
  refine lv_goto (tgt := 14) hx hb d_SD_init_37 (by decide) ?_
  exact kk ls H locs nq v (lv_sub hl [1, 0] rfl) hP hD hS
end TU
-- SplitDrill(): four generators of seeds 0 to 3
set_option maxHeartbeats 8000000 in
theorem m_SD_init (l : Launch) (dC : Nat → ClassId) (dI : Nat → Nat → Nat) (sz x : Nat) : Met l y_SD_init w_SD_init ({ frames := 6, cells := 9, slots := 20, locals := 119 }) (va_Pc [.ref x] (fun U => U.heap.size = sz ∧ va_P (dC, dI) kcls [(x, .inr (0, [.null]))] U.heap ∧ va_K (dC, dI) kcls [] U ∧ va_Nw k_nest U ∧ va_AO R_SR U)) (va_Qv (fun (_ : Nat × ClassId × (Nat → Nat) × (Nat → Value)) => True) (fun u t => va_P (dC, dI) kcls (dr_w x u.1 u.2.1 u.2.2.1 lN (fun _ => (-7046029254386353131)) u.2.2.2) t.heap ∧ va_D (va_A [(x, .inr (0, [.null]))] sz) (dr_w x u.1 u.2.1 u.2.2.1 lN (fun _ => (-7046029254386353131)) u.2.2.2) ∧ va_K (dC, dI) kcls [(u.2.1, .object R_SR)] t) (va_A [(x, .inr (0, [.null]))] sz)) 9 20 (va_A [(x, .inr (0, [.null]))] sz) := by
  refine Met.ofW (cc := b_SD_init) (maxL := 2) (ret := none) (by decide) rfl ?_
  intro p e s m args below meth c s₁ B hml hv
  obtain ⟨rfl, hsz, hP, hK, hN, hO⟩ := hv
  have hx := B.exec
  have hb := B.bytes
  have hr := B.returns
  have hts := atoms_spec (ws := w_SD_init) B.pre
  have htw := tail_ts hts
  have hown : s.vm.findClass R_SD = some m.cls := findClass_of_methodNamed B.named
  have hlocks := B.notSynchronized
  subst hsz
  have hl := lv_entry ([.ref x]) (n := 2) (Nat.le_of_ble_eq_true rfl)
  rw [lg_entry_eq]
  generalize (lg_sl ([.ref x]) ++ List.replicate (2 - (lg_sl ([.ref x])).length) Slot.unset).toArray = ls at hl ⊢
  have hl : lv_has ls 2 [(0, .ref x)] := hl
  have hin : meth.name = "<init>" := (name_of_methodNamed B.named B.method).1
  have hD := d_one (h := x) (e := .inr (0, [.null])) (sz := s.heap.size)
  generalize hAe : va_A [(x, .inr (0, [.null]))] s.heap.size = A at hD ⊢
  have hA : ∀ q : Nat, s.heap.size ≤ q → A q := fun q h => by rw [← hAe]; exact Or.inr h
  have hS : va_S A s.heap s.heap [] := va_S.rf
  refine lv_aload_n hx hb d_SD_init_0 rfl (lv_at hl 0 rfl) ?_
  refine W.objInit hx hb hown (htw _ (wm 13 rfl)) (htw _ (wm 14 rfl)) (htw _ (wm 15 rfl)) rfl (by rw [hml]; exact hl.1) rfl d_SD_init_1 (Nat.le_of_ble_eq_true rfl) (Nat.le_of_ble_eq_true rfl) ?_
  refine W.eq (g2 := F0 m 4 ls []) rfl ?_
  refine lv_aload_n hx hb d_SD_init_4 rfl (lv_at hl 0 rfl) ?_
  refine lv_iconst (v := 4) hx hb d_SD_init_5 (by decide) ?_
  refine va_newq (C := R_SR) (N' := 4) hx hb hown (htw _ (wm 16 rfl)) hO hK hP hD hS hA (by decide) (by decide) (by decide) (Nat.le_of_ble_eq_true rfl) (Nat.le_of_ble_eq_true rfl) d_SD_init_6 (fun ra cA H hK hP hD hS => ?_)
  have hK : va_K (dC, dI) kcls [(cA, .object R_SR)] s := hK
  refine va_putF (D := (dC, dI)) (ci := 0) (v := .ref ra) (ty := .array (.object "java/util/SplittableRandom")) (C := R_SD) (T := F_SD) (N := 1) hx hb htw in_SD t_SD t_SD_ok n_SD hown hK hP hD hS 0 rfl rfl 0 (by decide) (htw _ (wm 45 rfl)) (fun _ h9 => h9) rfl hin rfl (by decide +kernel) rfl rfl (Nat.le_of_ble_eq_true rfl) d_SD_init_9 (fun H locs hP hD hS => ?_)
  refine W.widen (k := 1) (n := 4) (by omega) (by omega) ?_
  refine lv_iconst (v := 0) hx hb d_SD_init_12 (by decide) ?_
  refine lv_istore_n hx hb d_SD_init_13 rfl hl (by decide) rfl (fun ls hl => ?_)
  have hl : lv_has ls 2 [(1, .int 0), (0, .ref x)] := hl
  refine W.eq (g2 := F0 m 14 ls []) rfl ?_
  have hl : lv_has ls 2 [(0, .ref x), (1, .int (nI 0))] := lv_sub hl [1, 0] rfl
  have hP : va_P (dC, dI) kcls [(x, .inr (0, [.ref ra])), (ra, dr_a cA (fun _ => none))] H := hP
  have hD : va_D A [(x, .inr (0, [.ref ra])), (ra, dr_a cA (fun _ => none))] := hD
  refine sd_turn hx hb hml hown htw hK hN hA (Nat.le_of_ble_eq_true rfl) (Nat.le_of_ble_eq_true rfl) 0 (by decide) [(x, .inr (0, [.ref ra])), (ra, dr_a cA (fun _ => none))] x ra (fun _ => none) rfl rfl (Nat.le_of_ble_eq_true rfl) (Nat.le_of_ble_eq_true rfl) ls hl hP hD hS (fun ls H locs q0 v0 hl hP hD hS => ?_)
  have hP : va_P (dC, dI) kcls [(x, .inr (0, [.ref ra])), (ra, dr_a cA (va_up (fun _ => none) 0 (some q0))), (q0, .inr (1, [.long (lN 0), .long (-7046029254386353131), .ref v0]))] H := hP
  have hD : va_D A [(x, .inr (0, [.ref ra])), (ra, dr_a cA (va_up (fun _ => none) 0 (some q0))), (q0, .inr (1, [.long (lN 0), .long (-7046029254386353131), .ref v0]))] := hD
  refine W.widen (k := 3) (n := 8) (by omega) (by omega) ?_
  refine sd_turn hx hb hml hown htw hK hN hA (Nat.le_of_ble_eq_true rfl) (Nat.le_of_ble_eq_true rfl) 1 (by decide) [(x, .inr (0, [.ref ra])), (ra, dr_a cA (va_up (fun _ => none) 0 (some q0))), (q0, .inr (1, [.long (lN 0), .long (-7046029254386353131), .ref v0]))] x ra (va_up (fun _ => none) 0 (some q0)) rfl rfl (Nat.le_of_ble_eq_true rfl) (Nat.le_of_ble_eq_true rfl) ls hl hP hD hS (fun ls H locs q1 v1 hl hP hD hS => ?_)
  have hP : va_P (dC, dI) kcls [(x, .inr (0, [.ref ra])), (ra, dr_a cA (va_up (va_up (fun _ => none) 0 (some q0)) 1 (some q1))), (q0, .inr (1, [.long (lN 0), .long (-7046029254386353131), .ref v0])), (q1, .inr (1, [.long (lN 1), .long (-7046029254386353131), .ref v1]))] H := hP
  have hD : va_D A [(x, .inr (0, [.ref ra])), (ra, dr_a cA (va_up (va_up (fun _ => none) 0 (some q0)) 1 (some q1))), (q0, .inr (1, [.long (lN 0), .long (-7046029254386353131), .ref v0])), (q1, .inr (1, [.long (lN 1), .long (-7046029254386353131), .ref v1]))] := hD
  refine W.widen (k := 5) (n := 12) (by omega) (by omega) ?_
  refine sd_turn hx hb hml hown htw hK hN hA (Nat.le_of_ble_eq_true rfl) (Nat.le_of_ble_eq_true rfl) 2 (by decide) [(x, .inr (0, [.ref ra])), (ra, dr_a cA (va_up (va_up (fun _ => none) 0 (some q0)) 1 (some q1))), (q0, .inr (1, [.long (lN 0), .long (-7046029254386353131), .ref v0])), (q1, .inr (1, [.long (lN 1), .long (-7046029254386353131), .ref v1]))] x ra (va_up (va_up (fun _ => none) 0 (some q0)) 1 (some q1)) rfl rfl (Nat.le_of_ble_eq_true rfl) (Nat.le_of_ble_eq_true rfl) ls hl hP hD hS (fun ls H locs q2 v2 hl hP hD hS => ?_)
  have hP : va_P (dC, dI) kcls [(x, .inr (0, [.ref ra])), (ra, dr_a cA (va_up (va_up (va_up (fun _ => none) 0 (some q0)) 1 (some q1)) 2 (some q2))), (q0, .inr (1, [.long (lN 0), .long (-7046029254386353131), .ref v0])), (q1, .inr (1, [.long (lN 1), .long (-7046029254386353131), .ref v1])), (q2, .inr (1, [.long (lN 2), .long (-7046029254386353131), .ref v2]))] H := hP
  have hD : va_D A [(x, .inr (0, [.ref ra])), (ra, dr_a cA (va_up (va_up (va_up (fun _ => none) 0 (some q0)) 1 (some q1)) 2 (some q2))), (q0, .inr (1, [.long (lN 0), .long (-7046029254386353131), .ref v0])), (q1, .inr (1, [.long (lN 1), .long (-7046029254386353131), .ref v1])), (q2, .inr (1, [.long (lN 2), .long (-7046029254386353131), .ref v2]))] := hD
  refine W.widen (k := 7) (n := 16) (by omega) (by omega) ?_
  refine sd_turn hx hb hml hown htw hK hN hA (Nat.le_of_ble_eq_true rfl) (Nat.le_of_ble_eq_true rfl) 3 (by decide) [(x, .inr (0, [.ref ra])), (ra, dr_a cA (va_up (va_up (va_up (fun _ => none) 0 (some q0)) 1 (some q1)) 2 (some q2))), (q0, .inr (1, [.long (lN 0), .long (-7046029254386353131), .ref v0])), (q1, .inr (1, [.long (lN 1), .long (-7046029254386353131), .ref v1])), (q2, .inr (1, [.long (lN 2), .long (-7046029254386353131), .ref v2]))] x ra (va_up (va_up (va_up (fun _ => none) 0 (some q0)) 1 (some q1)) 2 (some q2)) rfl rfl (Nat.le_of_ble_eq_true rfl) (Nat.le_of_ble_eq_true rfl) ls hl hP hD hS (fun ls H locs q3 v3 hl hP hD hS => ?_)
  have hP : va_P (dC, dI) kcls [(x, .inr (0, [.ref ra])), (ra, dr_a cA (va_up (va_up (va_up (va_up (fun _ => none) 0 (some q0)) 1 (some q1)) 2 (some q2)) 3 (some q3))), (q0, .inr (1, [.long (lN 0), .long (-7046029254386353131), .ref v0])), (q1, .inr (1, [.long (lN 1), .long (-7046029254386353131), .ref v1])), (q2, .inr (1, [.long (lN 2), .long (-7046029254386353131), .ref v2])), (q3, .inr (1, [.long (lN 3), .long (-7046029254386353131), .ref v3]))] H := hP
  have hD : va_D A [(x, .inr (0, [.ref ra])), (ra, dr_a cA (va_up (va_up (va_up (va_up (fun _ => none) 0 (some q0)) 1 (some q1)) 2 (some q2)) 3 (some q3))), (q0, .inr (1, [.long (lN 0), .long (-7046029254386353131), .ref v0])), (q1, .inr (1, [.long (lN 1), .long (-7046029254386353131), .ref v1])), (q2, .inr (1, [.long (lN 2), .long (-7046029254386353131), .ref v2])), (q3, .inr (1, [.long (lN 3), .long (-7046029254386353131), .ref v3]))] := hD
  refine W.widen (k := 9) (n := 20) (by omega) (by omega) ?_
  refine lv_iload_n hx hb d_SD_init_14 rfl (lv_at hl 1 rfl) ?_
  refine lv_iconst (v := 4) hx hb d_SD_init_15 (by decide) ?_
  refine lv_icmp_ge (tgt := 40) hx hb d_SD_init_16 (by decide) (fun hc => ?_) (fun hc => absurd (by decide) hc)
  have hP := arr_same (g := fa (fun j => match j with | 0 => q0 | 1 => q1 | 2 => q2 | _ => q3)) hP (fun j hj => by rcases (show j = 0 ∨ j = 1 ∨ j = 2 ∨ j = 3 by omega) with rfl | rfl | rfl | rfl <;> rfl)
  have hD : va_D A (dr_w x ra cA (fun j => match j with | 0 => q0 | 1 => q1 | 2 => q2 | _ => q3) lN (fun _ => (-7046029254386353131)) (fun j => match j with | 0 => .ref v0 | 1 => .ref v1 | 2 => .ref v2 | _ => .ref v3)) := hD.set (p := 1) (e := dr_a cA (fa (fun j => match j with | 0 => q0 | 1 => q1 | 2 => q2 | _ => q3))) rfl
  exact W.vret hx hb hr (fun t ht hW => ⟨⟨(ra, cA, (fun j => match j with | 0 => q0 | 1 => q1 | 2 => q2 | _ => q3), (fun j => match j with | 0 => .ref v0 | 1 => .ref v1 | 2 => .ref v2 | _ => .ref v3)), rfl, trivial, atH ht hP, hD, va_K.moved hW.alike hK⟩, hS.F ht⟩) hS.2.2 d_SD_init_40
end
section
/-! the law's own loop: printed by wip/D-90558w/gen8.py -/
def lw_A (s : State) : Nat → Prop := fun q => s.heap.size ≤ q
/-- the law's world: its two arrays of longs, and the drill's world -/
def lw_w (sa ta : Nat) (cL cM : ClassId) (sL gL : Nat → Int64) (W : va_W) : va_W := (sa, .inl (cL, 4, .inr (.inl sL))) :: (ta, .inl (cM, 4, .inr (.inl gL))) :: W
/-- what stays over the whole walk -/
def lw_H (p : Program) (s : State) (m : MethodId) (c : Code) (b : Nat) (dC : Nat → ClassId) (dI : Nat → Nat → Nat) (cA cL cM : ClassId) : Prop :=
  p.tables.exec = Jvm.exec ∧ c.code = code ∧ c.maxLocals = 12 ∧ s.vm.findClass R_law = some m.cls ∧ (∀ w ∈ W_all, w.before #[Value.ref b] s = true) ∧ va_Nw k_nest s ∧ va_K (dC, dI) kcls [(cA, .object R_SR), (cL, .long), (cM, .long)] s
section LB
variable {p : Program} {l : Launch} {e : Env} {s : State} {m : MethodId} {below : List Frame} {meth : Method} {c : Code} {H : Heap} {locs : List Loc} {cells slots : Nat} {Q : State → Prop}
variable {b x ra sa ta : Nat} {dC : Nat → ClassId} {dI : Nat → Nat → Nat} {cA cL cM : ClassId}

-- case 0: seed(k, s)
set_option maxHeartbeats 8000000 in
theorem lb_seed (C : lw_H p s m c b dC dI cA cL cM) (i j k : Nat) (hk : k < 4) (hj : j < 4) (w : Int32) (ad : Nat → Nat) (sd gm : Nat → Int64) (px : Nat → Value) (ls : Array Slot) (hl : lv_has ls 12 [(7, .int (nI j)), (6, .int (nI k)), (5, .int w), (0, .ref b), (1, .ref x), (2, .ref sa), (3, .ref ta), (4, .int (nI i))]) (hP : va_P (dC, dI) kcls (lw_w sa ta cL cM sd gm (dr_w x ra cA ad sd gm px)) H) (hD : va_D (lw_A s) (lw_w sa ta cL cM sd gm (dr_w x ra cA ad sd gm px))) (hS : va_S (lw_A s) s.heap H locs) (hc : cells + 2 ≤ 1200000) (hs : slots + 4 ≤ 5502250)
    (kk : ∀ (ls : Array Slot) (H1 : Heap) (locs1 : List Loc) (ad : Nat → Nat) (sd gm : Nat → Int64) (px : Nat → Value), lv_has ls 12 [(0, .ref b), (1, .ref x), (2, .ref sa), (3, .ref ta), (4, .int (nI i))] → va_P (dC, dI) kcls (lw_w sa ta cL cM sd gm (dr_w x ra cA ad sd gm px)) H1 → va_D (lw_A s) (lw_w sa ta cL cM sd gm (dr_w x ra cA ad sd gm px)) → va_S (lw_A s) s.heap H1 locs1 → W p l e room_1 s m #[Value.ref b] below meth c H1 locs1 (cells + 2) (slots + 4) Q (F0 m 298 ls [])) : W p l e room_1 s m #[Value.ref b] below meth c H locs cells slots Q (F0 m 148 ls []) := by
  obtain ⟨hx, hb, hml, hown, htw, hN, hK⟩ := C
  have hA : ∀ q : Nat, s.heap.size ≤ q → (lw_A s) q := fun q h => h
  have hck : (nI k).toNatClampNeg = k := nI_clamp (by omega)
  have hcj : (nI j).toNatClampNeg = j := nI_clamp (by omega)
  have hik : vp_in (nI k) 4 := vp_in_nI hk (by decide)
  have hij : vp_in (nI j) 4 := vp_in_nI hj (by decide)
  refine lv_iload hx hb d_law_148 (lv_at hl 2 rfl) ?_
  refine lv_i2l hx hb d_law_150 rfl ?_
  refine lv_bipush (v := 21) hx hb d_law_151 (by decide) ?_
  refine lv_lshl hx hb d_law_153 rfl ?_
  refine lv_iload hx hb d_law_154 (lv_at hl 2 rfl) ?_
  refine lv_i2l hx hb d_law_156 rfl ?_
  refine lv_lxor hx hb d_law_157 ?_
  refine lv_topl (fun z1 e1 => ?_)
  refine lv_lstore hx hb d_law_158 hl (by decide) rfl (fun ls hl => ?_)
  have hl : lv_has ls 12 [(8, .long z1), (7, .int (nI j)), (6, .int (nI k)), (5, .int w), (0, .ref b), (1, .ref x), (2, .ref sa), (3, .ref ta), (4, .int (nI i))] := hl
  refine lv_aload_n hx hb d_law_160 rfl (lv_at hl 5 rfl) ?_
  refine lv_iload hx hb d_law_161 (lv_at hl 2 rfl) ?_
  refine lv_lload hx hb d_law_163 (lv_at hl 0 rfl) ?_
  have hPc := hP.sub (ws' := dr_w x ra cA ad sd gm px) [2, 3, 4, 5, 6, 7] rfl
  have hDc := hD.sub (ws' := dr_w x ra cA ad sd gm px) [2, 3, 4, 5, 6, 7] (by decide) rfl
  have hKc := hK.sub (tys' := [(cA, .object R_SR)]) [0] rfl
  have hFc := va_free (wc := dr_w x ra cA ad sd gm px) hD hS hA [2, 3, 4, 5, 6, 7] rfl
  refine va_callv (va_runV (As := [.int (nI k), .long z1]) (rest := []) ⟨hx, hb, hml, hown, htw⟩ (m_SD_seed l dC dI H.size x ra cA ad sd gm px k hk z1) (cwV 2 htw (gaV (wm 47 rfl) (wm 48 rfl) (wm 49 rfl) (wm 1 rfl) (wm 50 rfl)) rfl rfl rfl (by decide +kernel) ⟨Nat.le_of_ble_eq_true rfl, Nat.le_of_ble_eq_true rfl⟩) ⟨fun a U g mk q => ⟨q.1, q.2.1, q.2.2.1, fb_K q.2.2.2.1, q.2.2.2.2.1, fb_N q.2.2.2.2.2⟩, va_recv (q := (R_SD, F_SD, 1)) (q0 := 2) hK hP rfl rfl, fun U hU hW => ⟨rfl, congrArg Array.size hU, atH hU hPc, va_K.moved hW.alike hKc, hDc.weaken (fun _ _ _ _ => trivial), va_Nw.warmM hW hN⟩⟩ rfl rfl hl.1 rfl (lv_room (Nat.le_of_ble_eq_true rfl)) d_law_165 ⟨hc, hs⟩) hS (fun q _ h => hFc q h) hFc (fun u t H1 locs ht hvm hp hB hz1 hk1 hS => ?_)
  obtain ⟨hB, hB2⟩ := hB
  rw [ht] at hB
  obtain ⟨hP, hD⟩ := va_join (wr := [(sa, .inl (cL, 4, .inr (.inl sd))), (ta, .inl (cM, 4, .inr (.inl gm)))]) (w1 := dr_w x ra cA (va_up ad k u.1) (vp_updL sd k z1) (vp_updL gm k (-7046029254386353131)) (va_up px k u.2)) hP hD [2, 3, 4, 5, 6, 7] [0, 1] rfl rfl (by decide) (by decide) hk1 hFc hB hB2
  generalize H1 = H at hP hS ⊢
  have hP : va_P (dC, dI) kcls (lw_w sa ta cL cM sd gm (dr_w x ra cA (va_up ad k u.1) (vp_updL sd k z1) (vp_updL gm k (-7046029254386353131)) (va_up px k u.2))) H := hP
  have hD : va_D (lw_A s) (lw_w sa ta cL cM sd gm (dr_w x ra cA (va_up ad k u.1) (vp_updL sd k z1) (vp_updL gm k (-7046029254386353131)) (va_up px k u.2))) := hD
  refine lv_aload_n hx hb d_law_168 rfl (lv_at hl 6 rfl) ?_
  refine lv_iload hx hb d_law_169 (lv_at hl 2 rfl) ?_
  refine lv_lload hx hb d_law_171 (lv_at hl 0 rfl) ?_
  refine va_last (x := z1) hx hb hK hP hD hS 0 1 rfl rfl hik d_law_173 (fun H locs hP hD hS => ?_)
  rw [hck] at hP hD
  have hP : va_P (dC, dI) kcls (lw_w sa ta cL cM (vp_updL sd k z1) gm (dr_w x ra cA (va_up ad k u.1) (vp_updL sd k z1) (vp_updL gm k (-7046029254386353131)) (va_up px k u.2))) H := hP
  have hD : va_D (lw_A s) (lw_w sa ta cL cM (vp_updL sd k z1) gm (dr_w x ra cA (va_up ad k u.1) (vp_updL sd k z1) (vp_updL gm k (-7046029254386353131)) (va_up px k u.2))) := hD
  refine lv_aload_n hx hb d_law_174 rfl (lv_at hl 7 rfl) ?_
  refine lv_iload hx hb d_law_175 (lv_at hl 2 rfl) ?_
  refine lv_ldc2 (v := (-7046029254386353131)) hx hb hown (htw _ (wm 120 rfl)) d_law_177 ?_
  refine va_last (x := (-7046029254386353131)) hx hb hK hP hD hS 1 2 rfl rfl hik d_law_180 (fun H locs hP hD hS => ?_)
  rw [hck] at hP hD
  have hP : va_P (dC, dI) kcls (lw_w sa ta cL cM (vp_updL sd k z1) (vp_updL gm k (-7046029254386353131)) (dr_w x ra cA (va_up ad k u.1) (vp_updL sd k z1) (vp_updL gm k (-7046029254386353131)) (va_up px k u.2))) H := hP
  have hD : va_D (lw_A s) (lw_w sa ta cL cM (vp_updL sd k z1) (vp_updL gm k (-7046029254386353131)) (dr_w x ra cA (va_up ad k u.1) (vp_updL sd k z1) (vp_updL gm k (-7046029254386353131)) (va_up px k u.2))) := hD
  refine lv_goto (tgt := 298) hx hb d_law_181 (by decide) ?_
  exact kk ls H locs _ _ _ _ (lv_sub hl [4, 5, 6, 7, 8] rfl) hP hD hS

-- cases 1 to 3: split(k, j)
set_option maxHeartbeats 8000000 in
theorem lb_split (C : lw_H p s m c b dC dI cA cL cM) (i j k : Nat) (hk : k < 4) (hj : j < 4) (w : Int32) (ad : Nat → Nat) (sd gm : Nat → Int64) (px : Nat → Value) (ls : Array Slot) (hl : lv_has ls 12 [(7, .int (nI j)), (6, .int (nI k)), (5, .int w), (0, .ref b), (1, .ref x), (2, .ref sa), (3, .ref ta), (4, .int (nI i))]) (hP : va_P (dC, dI) kcls (lw_w sa ta cL cM sd gm (dr_w x ra cA ad sd gm px)) H) (hD : va_D (lw_A s) (lw_w sa ta cL cM sd gm (dr_w x ra cA ad sd gm px))) (hS : va_S (lw_A s) s.heap H locs) (hc : cells + 2 ≤ 1200000) (hs : slots + 4 ≤ 5502250)
    (kk : ∀ (ls : Array Slot) (H1 : Heap) (locs1 : List Loc) (ad : Nat → Nat) (sd gm : Nat → Int64) (px : Nat → Value), lv_has ls 12 [(0, .ref b), (1, .ref x), (2, .ref sa), (3, .ref ta), (4, .int (nI i))] → va_P (dC, dI) kcls (lw_w sa ta cL cM sd gm (dr_w x ra cA ad sd gm px)) H1 → va_D (lw_A s) (lw_w sa ta cL cM sd gm (dr_w x ra cA ad sd gm px)) → va_S (lw_A s) s.heap H1 locs1 → W p l e room_1 s m #[Value.ref b] below meth c H1 locs1 (cells + 2) (slots + 4) Q (F0 m 298 ls [])) : W p l e room_1 s m #[Value.ref b] below meth c H locs cells slots Q (F0 m 184 ls []) := by
  obtain ⟨hx, hb, hml, hown, htw, hN, hK⟩ := C
  have hA : ∀ q : Nat, s.heap.size ≤ q → (lw_A s) q := fun q h => h
  have hck : (nI k).toNatClampNeg = k := nI_clamp (by omega)
  have hcj : (nI j).toNatClampNeg = j := nI_clamp (by omega)
  have hik : vp_in (nI k) 4 := vp_in_nI hk (by decide)
  have hij : vp_in (nI j) 4 := vp_in_nI hj (by decide)
  refine lv_aload_n hx hb d_law_184 rfl (lv_at hl 5 rfl) ?_
  refine lv_iload hx hb d_law_185 (lv_at hl 0 rfl) ?_
  refine va_lald hx hb hK hP 0 1 rfl rfl hij d_law_187 ?_
  refine W.eq (g2 := F0 m 188 ls (.long (sd j) :: [])) (congrArg (fun j9 => F0 m 188 ls (.long (sd j9) :: [])) hcj) ?_
  refine lv_aload_n hx hb d_law_188 rfl (lv_at hl 6 rfl) ?_
  refine lv_iload hx hb d_law_189 (lv_at hl 0 rfl) ?_
  refine va_lald hx hb hK hP 1 2 rfl rfl hij d_law_191 ?_
  refine W.eq (g2 := F0 m 192 ls (.long (gm j) :: [.long (sd j)])) (congrArg (fun j9 => F0 m 192 ls (.long (gm j9) :: [.long (sd j)])) hcj) ?_
  refine lv_ladd hx hb d_law_192 ?_
  refine lv_lstore hx hb d_law_193 hl (by decide) rfl (fun ls hl => ?_)
  have hl : lv_has ls 12 [(8, .long (sd j + gm j)), (7, .int (nI j)), (6, .int (nI k)), (5, .int w), (0, .ref b), (1, .ref x), (2, .ref sa), (3, .ref ta), (4, .int (nI i))] := hl
  refine lv_lload hx hb d_law_195 (lv_at hl 0 rfl) ?_
  refine lv_aload_n hx hb d_law_197 rfl (lv_at hl 7 rfl) ?_
  refine lv_iload hx hb d_law_198 (lv_at hl 1 rfl) ?_
  refine va_lald hx hb hK hP 1 2 rfl rfl hij d_law_200 ?_
  refine W.eq (g2 := F0 m 201 ls (.long (gm j) :: [.long (sd j + gm j)])) (congrArg (fun j9 => F0 m 201 ls (.long (gm j9) :: [.long (sd j + gm j)])) hcj) ?_
  refine lv_ladd hx hb d_law_201 ?_
  refine lv_lstore hx hb d_law_202 hl (by decide) rfl (fun ls hl => ?_)
  have hl : lv_has ls 12 [(10, .long (sd j + gm j + gm j)), (8, .long (sd j + gm j)), (7, .int (nI j)), (6, .int (nI k)), (5, .int w), (0, .ref b), (1, .ref x), (2, .ref sa), (3, .ref ta), (4, .int (nI i))] := hl
  refine lv_aload_n hx hb d_law_204 rfl (lv_at hl 6 rfl) ?_
  refine lv_iload hx hb d_law_205 (lv_at hl 3 rfl) ?_
  refine lv_iload hx hb d_law_207 (lv_at hl 2 rfl) ?_
  have hPc := hP.sub (ws' := dr_w x ra cA ad sd gm px) [2, 3, 4, 5, 6, 7] rfl
  have hDc := hD.sub (ws' := dr_w x ra cA ad sd gm px) [2, 3, 4, 5, 6, 7] (by decide) rfl
  have hKc := hK.sub (tys' := [(cA, .object R_SR)]) [0] rfl
  have hFc := va_free (wc := dr_w x ra cA ad sd gm px) hD hS hA [2, 3, 4, 5, 6, 7] rfl
  refine va_callv (va_runV (As := [.int (nI k), .int (nI j)]) (rest := []) ⟨hx, hb, hml, hown, htw⟩ (m_SD_split l dC dI H.size x ra cA ad sd gm px k j hk hj) (cwV 2 htw (gaV (wm 80 rfl) (wm 81 rfl) (wm 82 rfl) (wm 1 rfl) (wm 83 rfl)) rfl rfl rfl (by decide +kernel) ⟨Nat.le_of_ble_eq_true rfl, Nat.le_of_ble_eq_true rfl⟩) ⟨fun a U g mk q => ⟨q.1, q.2.1, q.2.2.1, fb_K q.2.2.2.1, q.2.2.2.2.1, fb_N q.2.2.2.2.2⟩, va_recv (q := (R_SD, F_SD, 1)) (q0 := 2) hK hP rfl rfl, fun U hU hW => ⟨rfl, congrArg Array.size hU, atH hU hPc, va_K.moved hW.alike hKc, hDc.weaken (fun _ _ _ _ => trivial), va_Nw.warmM hW hN⟩⟩ rfl rfl hl.1 rfl (lv_room (Nat.le_of_ble_eq_true rfl)) d_law_209 ⟨hc, hs⟩) hS (fun q _ h => hFc q h) hFc (fun u t H1 locs ht hvm hp hB hz1 hk1 hS => ?_)
  obtain ⟨hB, hB2⟩ := hB
  rw [ht] at hB
  obtain ⟨hP, hD⟩ := va_join (wr := [(sa, .inl (cL, 4, .inr (.inl sd))), (ta, .inl (cM, 4, .inr (.inl gm)))]) (w1 := dr_w x ra cA (va_up ad k u.1) (vp_updL (vp_updL sd j (sd j + gm j + gm j)) k (fm_64 (sd j + gm j))) (vp_updL gm k (fm_g (sd j + gm j + gm j))) (va_up px k u.2)) hP hD [2, 3, 4, 5, 6, 7] [0, 1] rfl rfl (by decide) (by decide) hk1 hFc hB hB2
  generalize H1 = H at hP hS ⊢
  have hP : va_P (dC, dI) kcls (lw_w sa ta cL cM sd gm (dr_w x ra cA (va_up ad k u.1) (vp_updL (vp_updL sd j (sd j + gm j + gm j)) k (fm_64 (sd j + gm j))) (vp_updL gm k (fm_g (sd j + gm j + gm j))) (va_up px k u.2))) H := hP
  have hD : va_D (lw_A s) (lw_w sa ta cL cM sd gm (dr_w x ra cA (va_up ad k u.1) (vp_updL (vp_updL sd j (sd j + gm j + gm j)) k (fm_64 (sd j + gm j))) (vp_updL gm k (fm_g (sd j + gm j + gm j))) (va_up px k u.2))) := hD
  refine lv_aload_n hx hb d_law_212 rfl (lv_at hl 7 rfl) ?_
  refine lv_iload hx hb d_law_213 (lv_at hl 2 rfl) ?_
  refine lv_lload hx hb d_law_215 (lv_at hl 0 rfl) ?_
  refine va_last (x := (sd j + gm j + gm j)) hx hb hK hP hD hS 0 1 rfl rfl hij d_law_217 (fun H locs hP hD hS => ?_)
  rw [hcj] at hP hD
  have hP : va_P (dC, dI) kcls (lw_w sa ta cL cM (vp_updL sd j (sd j + gm j + gm j)) gm (dr_w x ra cA (va_up ad k u.1) (vp_updL (vp_updL sd j (sd j + gm j + gm j)) k (fm_64 (sd j + gm j))) (vp_updL gm k (fm_g (sd j + gm j + gm j))) (va_up px k u.2))) H := hP
  have hD : va_D (lw_A s) (lw_w sa ta cL cM (vp_updL sd j (sd j + gm j + gm j)) gm (dr_w x ra cA (va_up ad k u.1) (vp_updL (vp_updL sd j (sd j + gm j + gm j)) k (fm_64 (sd j + gm j))) (vp_updL gm k (fm_g (sd j + gm j + gm j))) (va_up px k u.2))) := hD
  refine lv_aload_n hx hb d_law_218 rfl (lv_at hl 7 rfl) ?_
  refine lv_iload hx hb d_law_219 (lv_at hl 3 rfl) ?_
  refine lv_lload hx hb d_law_221 (lv_at hl 1 rfl) ?_
  refine va_calll (va_runS (As := [.long (sd j + gm j)]) (rest := [.int (nI k), .ref sa]) ⟨hx, hb, hml, hown, htw⟩ (m_LW_mix64 l H.size (sd j + gm j)) (va_cwS 1 htw (gaS (wm 102 rfl) (wm 103 rfl) (wm 0 rfl) (wm 104 rfl)) rfl rfl rfl (by decide +kernel) ⟨Nat.le_of_ble_eq_true rfl, Nat.le_of_ble_eq_true rfl⟩) ⟨fun a U g mk q => q, fun U hU hW => ⟨rfl, congrArg Array.size hU⟩⟩ rfl rfl hl.1 rfl (lv_room (Nat.le_of_ble_eq_true rfl)) d_law_223 ⟨by show _ ≤ 1200000; omega, by show _ ≤ 5502250; omega⟩) hS (fun q _ h => Nat.le_trans hS.1 h) (fun q h => Nat.le_trans hS.1 h) (fun r u9 t H1 locs ht hvm hp _ hz1 hk1 hS => ?_)
  have hp : r = fm_64 (sd j + gm j) := hp
  subst hp
  have hP := jn_keep hP hk1
  generalize H1 = H at hP hS ⊢
  refine va_last (x := (fm_64 (sd j + gm j))) hx hb hK hP hD hS 0 1 rfl rfl hik d_law_226 (fun H locs hP hD hS => ?_)
  rw [hck] at hP hD
  have hP : va_P (dC, dI) kcls (lw_w sa ta cL cM (vp_updL (vp_updL sd j (sd j + gm j + gm j)) k (fm_64 (sd j + gm j))) gm (dr_w x ra cA (va_up ad k u.1) (vp_updL (vp_updL sd j (sd j + gm j + gm j)) k (fm_64 (sd j + gm j))) (vp_updL gm k (fm_g (sd j + gm j + gm j))) (va_up px k u.2))) H := hP
  have hD : va_D (lw_A s) (lw_w sa ta cL cM (vp_updL (vp_updL sd j (sd j + gm j + gm j)) k (fm_64 (sd j + gm j))) gm (dr_w x ra cA (va_up ad k u.1) (vp_updL (vp_updL sd j (sd j + gm j + gm j)) k (fm_64 (sd j + gm j))) (vp_updL gm k (fm_g (sd j + gm j + gm j))) (va_up px k u.2))) := hD
  refine lv_aload_n hx hb d_law_227 rfl (lv_at hl 8 rfl) ?_
  refine lv_iload hx hb d_law_228 (lv_at hl 3 rfl) ?_
  refine lv_lload hx hb d_law_230 (lv_at hl 0 rfl) ?_
  refine va_calll (va_runS (As := [.long (sd j + gm j + gm j)]) (rest := [.int (nI k), .ref ta]) ⟨hx, hb, hml, hown, htw⟩ (m_LW_gamma l H.size (sd j + gm j + gm j)) (va_cwS 1 htw (gaS (wm 112 rfl) (wm 113 rfl) (wm 0 rfl) (wm 114 rfl)) rfl rfl rfl (by decide +kernel) ⟨Nat.le_of_ble_eq_true rfl, Nat.le_of_ble_eq_true rfl⟩) ⟨fun a U g mk q => q, fun U hU hW => ⟨rfl, congrArg Array.size hU⟩⟩ rfl rfl hl.1 rfl (lv_room (Nat.le_of_ble_eq_true rfl)) d_law_232 ⟨by show _ ≤ 1200000; omega, by show _ ≤ 5502250; omega⟩) hS (fun q _ h => Nat.le_trans hS.1 h) (fun q h => Nat.le_trans hS.1 h) (fun r u9 t H1 locs ht hvm hp _ hz1 hk1 hS => ?_)
  have hp : r = fm_g (sd j + gm j + gm j) := hp
  subst hp
  have hP := jn_keep hP hk1
  generalize H1 = H at hP hS ⊢
  refine va_last (x := (fm_g (sd j + gm j + gm j))) hx hb hK hP hD hS 1 2 rfl rfl hik d_law_235 (fun H locs hP hD hS => ?_)
  rw [hck] at hP hD
  have hP : va_P (dC, dI) kcls (lw_w sa ta cL cM (vp_updL (vp_updL sd j (sd j + gm j + gm j)) k (fm_64 (sd j + gm j))) (vp_updL gm k (fm_g (sd j + gm j + gm j))) (dr_w x ra cA (va_up ad k u.1) (vp_updL (vp_updL sd j (sd j + gm j + gm j)) k (fm_64 (sd j + gm j))) (vp_updL gm k (fm_g (sd j + gm j + gm j))) (va_up px k u.2))) H := hP
  have hD : va_D (lw_A s) (lw_w sa ta cL cM (vp_updL (vp_updL sd j (sd j + gm j + gm j)) k (fm_64 (sd j + gm j))) (vp_updL gm k (fm_g (sd j + gm j + gm j))) (dr_w x ra cA (va_up ad k u.1) (vp_updL (vp_updL sd j (sd j + gm j + gm j)) k (fm_64 (sd j + gm j))) (vp_updL gm k (fm_g (sd j + gm j + gm j))) (va_up px k u.2))) := hD
  refine lv_goto (tgt := 298) hx hb d_law_236 (by decide) ?_
  exact kk ls H locs _ _ _ _ (lv_sub hl [5, 6, 7, 8, 9] rfl) hP hD hS

-- lb_int
set_option maxHeartbeats 8000000 in
theorem lb_int (C : lw_H p s m c b dC dI cA cL cM) (i j k : Nat) (hk : k < 4) (hj : j < 4) (w : Int32) (ad : Nat → Nat) (sd gm : Nat → Int64) (px : Nat → Value) (ls : Array Slot) (hl : lv_has ls 12 [(7, .int (nI j)), (6, .int (nI k)), (5, .int w), (0, .ref b), (1, .ref x), (2, .ref sa), (3, .ref ta), (4, .int (nI i))]) (hP : va_P (dC, dI) kcls (lw_w sa ta cL cM sd gm (dr_w x ra cA ad sd gm px)) H) (hD : va_D (lw_A s) (lw_w sa ta cL cM sd gm (dr_w x ra cA ad sd gm px))) (hS : va_S (lw_A s) s.heap H locs) (hc : cells + 0 ≤ 1200000) (hs : slots + 0 ≤ 5502250)
    (kk : ∀ (ls : Array Slot) (H1 : Heap) (locs1 : List Loc) (ad : Nat → Nat) (sd gm : Nat → Int64) (px : Nat → Value), lv_has ls 12 [(0, .ref b), (1, .ref x), (2, .ref sa), (3, .ref ta), (4, .int (nI i))] → va_P (dC, dI) kcls (lw_w sa ta cL cM sd gm (dr_w x ra cA ad sd gm px)) H1 → va_D (lw_A s) (lw_w sa ta cL cM sd gm (dr_w x ra cA ad sd gm px)) → va_S (lw_A s) s.heap H1 locs1 → W p l e room_1 s m #[Value.ref b] below meth c H1 locs1 (cells + 0) (slots + 0) Q (F0 m 298 ls [])) : W p l e room_1 s m #[Value.ref b] below meth c H locs cells slots Q (F0 m 239 ls []) := by
  obtain ⟨hx, hb, hml, hown, htw, hN, hK⟩ := C
  have hA : ∀ q : Nat, s.heap.size ≤ q → (lw_A s) q := fun q h => h
  have hck : (nI k).toNatClampNeg = k := nI_clamp (by omega)
  have hcj : (nI j).toNatClampNeg = j := nI_clamp (by omega)
  have hik : vp_in (nI k) 4 := vp_in_nI hk (by decide)
  have hij : vp_in (nI j) 4 := vp_in_nI hj (by decide)
  refine lv_aload_n hx hb d_law_239 rfl (lv_at hl 5 rfl) ?_
  refine lv_iload hx hb d_law_240 (lv_at hl 1 rfl) ?_
  refine lv_dup2_11 hx hb d_law_242 rfl rfl ?_
  refine va_lald hx hb hK hP 0 1 rfl rfl hik d_law_243 ?_
  refine W.eq (g2 := F0 m 244 ls (.long (sd k) :: [.int (nI k), .ref sa])) (congrArg (fun j9 => F0 m 244 ls (.long (sd j9) :: [.int (nI k), .ref sa])) hck) ?_
  refine lv_aload_n hx hb d_law_244 rfl (lv_at hl 6 rfl) ?_
  refine lv_iload hx hb d_law_245 (lv_at hl 1 rfl) ?_
  refine va_lald hx hb hK hP 1 2 rfl rfl hik d_law_247 ?_
  refine W.eq (g2 := F0 m 248 ls (.long (gm k) :: [.long (sd k), .int (nI k), .ref sa])) (congrArg (fun j9 => F0 m 248 ls (.long (gm j9) :: [.long (sd k), .int (nI k), .ref sa])) hck) ?_
  refine lv_ladd hx hb d_law_248 ?_
  refine va_last (x := (sd k + gm k)) hx hb hK hP hD hS 0 1 rfl rfl hik d_law_249 (fun H locs hP hD hS => ?_)
  rw [hck] at hP hD
  have hP : va_P (dC, dI) kcls (lw_w sa ta cL cM (vp_updL sd k (sd k + gm k)) gm (dr_w x ra cA ad sd gm px)) H := hP
  have hD : va_D (lw_A s) (lw_w sa ta cL cM (vp_updL sd k (sd k + gm k)) gm (dr_w x ra cA ad sd gm px)) := hD
  refine lv_aload_n hx hb d_law_250 rfl (lv_at hl 4 rfl) ?_
  refine lv_iload hx hb d_law_251 (lv_at hl 1 rfl) ?_
  have hPc := hP.sub (ws' := dr_w x ra cA ad sd gm px) [2, 3, 4, 5, 6, 7] rfl
  have hDc := hD.sub (ws' := dr_w x ra cA ad sd gm px) [2, 3, 4, 5, 6, 7] (by decide) rfl
  have hKc := hK.sub (tys' := [(cA, .object R_SR)]) [0] rfl
  have hFc := va_free (wc := dr_w x ra cA ad sd gm px) hD hS hA [2, 3, 4, 5, 6, 7] rfl
  refine va_calli (va_runV (As := [.int (nI k)]) (rest := []) ⟨hx, hb, hml, hown, htw⟩ (m_SD_nextInt l dC dI H.size x ra cA ad sd gm px k hk) (cwV 1 htw (gaV (wm 51 rfl) (wm 52 rfl) (wm 53 rfl) (wm 1 rfl) (wm 54 rfl)) rfl rfl rfl (by decide +kernel) ⟨Nat.le_of_ble_eq_true rfl, Nat.le_of_ble_eq_true rfl⟩) ⟨fun a U g mk q => ⟨q.1, q.2.1, q.2.2.1, fb_K q.2.2.2.1, q.2.2.2.2⟩, va_recv (q := (R_SD, F_SD, 1)) (q0 := 2) hK hP rfl rfl, fun U hU hW => ⟨rfl, congrArg Array.size hU, atH hU hPc, va_K.moved hW.alike hKc, hDc.weaken (fun _ _ _ _ => trivial)⟩⟩ rfl rfl hl.1 rfl (lv_room (Nat.le_of_ble_eq_true rfl)) d_law_253 ⟨hc, hs⟩) hS (fun q _ h => hFc q h) hFc (fun r u t H1 locs ht hvm hp hB hz1 hk1 hS => ?_)
  obtain ⟨hB, hB2⟩ := hB
  rw [ht] at hB
  obtain ⟨hP, hD⟩ := va_join (wr := [(sa, .inl (cL, 4, .inr (.inl (vp_updL sd k (sd k + gm k))))), (ta, .inl (cM, 4, .inr (.inl gm)))]) (w1 := dr_w x ra cA ad (vp_updL sd k (sd k + gm k)) gm px) hP hD [2, 3, 4, 5, 6, 7] [0, 1] rfl rfl (by decide) (by decide) hk1 hFc hB hB2
  generalize H1 = H at hP hS ⊢
  have hP : va_P (dC, dI) kcls (lw_w sa ta cL cM (vp_updL sd k (sd k + gm k)) gm (dr_w x ra cA ad (vp_updL sd k (sd k + gm k)) gm px)) H := hP
  have hD : va_D (lw_A s) (lw_w sa ta cL cM (vp_updL sd k (sd k + gm k)) gm (dr_w x ra cA ad (vp_updL sd k (sd k + gm k)) gm px)) := hD
  have hp : r = fm_32 (sd k + gm k) := hp
  subst hp
  refine lv_aload_n hx hb d_law_256 rfl (lv_at hl 5 rfl) ?_
  refine lv_iload hx hb d_law_257 (lv_at hl 1 rfl) ?_
  refine va_lald hx hb hK hP 0 1 rfl rfl hik d_law_259 ?_
  refine W.eq (g2 := F0 m 260 ls (.long ((vp_updL sd k (sd k + gm k)) k) :: [.int (fm_32 (sd k + gm k))])) (congrArg (fun j9 => F0 m 260 ls (.long ((vp_updL sd k (sd k + gm k)) j9) :: [.int (fm_32 (sd k + gm k))])) hck) ?_
  refine W.eq (g2 := F0 m 260 ls (.long (sd k + gm k) :: [.int (fm_32 (sd k + gm k))])) (congrArg (fun z => F0 m 260 ls (.long z :: [.int (fm_32 (sd k + gm k))])) pk_uLs) ?_
  refine va_calli (va_runS (As := [.long (sd k + gm k)]) (rest := [.int (fm_32 (sd k + gm k))]) ⟨hx, hb, hml, hown, htw⟩ (m_LW_mix32 l H.size (sd k + gm k)) (va_cwS 1 htw (gaS (wm 107 rfl) (wm 108 rfl) (wm 0 rfl) (wm 109 rfl)) rfl rfl rfl (by decide +kernel) ⟨Nat.le_of_ble_eq_true rfl, Nat.le_of_ble_eq_true rfl⟩) ⟨fun a U g mk q => q, fun U hU hW => ⟨rfl, congrArg Array.size hU⟩⟩ rfl rfl hl.1 rfl (lv_room (Nat.le_of_ble_eq_true rfl)) d_law_260 ⟨hc, hs⟩) hS (fun q _ h => Nat.le_trans hS.1 h) (fun q h => Nat.le_trans hS.1 h) (fun r u9 t H1 locs ht hvm hp _ hz1 hk1 hS => ?_)
  have hp : r = fm_32 (sd k + gm k) := hp
  subst hp
  have hP := jn_keep hP hk1
  generalize H1 = H at hP hS ⊢
  refine lv_icmp_eq (tgt := 298) hx hb d_law_263 (by decide) (fun _ => ?_) (fun h => absurd rfl h)
  exact kk ls H locs _ _ _ _ (lv_sub hl [3, 4, 5, 6, 7] rfl) hP hD hS

-- lb_long
set_option maxHeartbeats 8000000 in
theorem lb_long (C : lw_H p s m c b dC dI cA cL cM) (i j k : Nat) (hk : k < 4) (hj : j < 4) (w : Int32) (ad : Nat → Nat) (sd gm : Nat → Int64) (px : Nat → Value) (ls : Array Slot) (hl : lv_has ls 12 [(7, .int (nI j)), (6, .int (nI k)), (5, .int w), (0, .ref b), (1, .ref x), (2, .ref sa), (3, .ref ta), (4, .int (nI i))]) (hP : va_P (dC, dI) kcls (lw_w sa ta cL cM sd gm (dr_w x ra cA ad sd gm px)) H) (hD : va_D (lw_A s) (lw_w sa ta cL cM sd gm (dr_w x ra cA ad sd gm px))) (hS : va_S (lw_A s) s.heap H locs) (hc : cells + 0 ≤ 1200000) (hs : slots + 0 ≤ 5502250)
    (kk : ∀ (ls : Array Slot) (H1 : Heap) (locs1 : List Loc) (ad : Nat → Nat) (sd gm : Nat → Int64) (px : Nat → Value), lv_has ls 12 [(0, .ref b), (1, .ref x), (2, .ref sa), (3, .ref ta), (4, .int (nI i))] → va_P (dC, dI) kcls (lw_w sa ta cL cM sd gm (dr_w x ra cA ad sd gm px)) H1 → va_D (lw_A s) (lw_w sa ta cL cM sd gm (dr_w x ra cA ad sd gm px)) → va_S (lw_A s) s.heap H1 locs1 → W p l e room_1 s m #[Value.ref b] below meth c H1 locs1 (cells + 0) (slots + 0) Q (F0 m 298 ls [])) : W p l e room_1 s m #[Value.ref b] below meth c H locs cells slots Q (F0 m 268 ls []) := by
  obtain ⟨hx, hb, hml, hown, htw, hN, hK⟩ := C
  have hA : ∀ q : Nat, s.heap.size ≤ q → (lw_A s) q := fun q h => h
  have hck : (nI k).toNatClampNeg = k := nI_clamp (by omega)
  have hcj : (nI j).toNatClampNeg = j := nI_clamp (by omega)
  have hik : vp_in (nI k) 4 := vp_in_nI hk (by decide)
  have hij : vp_in (nI j) 4 := vp_in_nI hj (by decide)
  refine lv_aload_n hx hb d_law_268 rfl (lv_at hl 5 rfl) ?_
  refine lv_iload hx hb d_law_269 (lv_at hl 1 rfl) ?_
  refine lv_dup2_11 hx hb d_law_271 rfl rfl ?_
  refine va_lald hx hb hK hP 0 1 rfl rfl hik d_law_272 ?_
  refine W.eq (g2 := F0 m 273 ls (.long (sd k) :: [.int (nI k), .ref sa])) (congrArg (fun j9 => F0 m 273 ls (.long (sd j9) :: [.int (nI k), .ref sa])) hck) ?_
  refine lv_aload_n hx hb d_law_273 rfl (lv_at hl 6 rfl) ?_
  refine lv_iload hx hb d_law_274 (lv_at hl 1 rfl) ?_
  refine va_lald hx hb hK hP 1 2 rfl rfl hik d_law_276 ?_
  refine W.eq (g2 := F0 m 277 ls (.long (gm k) :: [.long (sd k), .int (nI k), .ref sa])) (congrArg (fun j9 => F0 m 277 ls (.long (gm j9) :: [.long (sd k), .int (nI k), .ref sa])) hck) ?_
  refine lv_ladd hx hb d_law_277 ?_
  refine va_last (x := (sd k + gm k)) hx hb hK hP hD hS 0 1 rfl rfl hik d_law_278 (fun H locs hP hD hS => ?_)
  rw [hck] at hP hD
  have hP : va_P (dC, dI) kcls (lw_w sa ta cL cM (vp_updL sd k (sd k + gm k)) gm (dr_w x ra cA ad sd gm px)) H := hP
  have hD : va_D (lw_A s) (lw_w sa ta cL cM (vp_updL sd k (sd k + gm k)) gm (dr_w x ra cA ad sd gm px)) := hD
  refine lv_aload_n hx hb d_law_279 rfl (lv_at hl 4 rfl) ?_
  refine lv_iload hx hb d_law_280 (lv_at hl 1 rfl) ?_
  have hPc := hP.sub (ws' := dr_w x ra cA ad sd gm px) [2, 3, 4, 5, 6, 7] rfl
  have hDc := hD.sub (ws' := dr_w x ra cA ad sd gm px) [2, 3, 4, 5, 6, 7] (by decide) rfl
  have hKc := hK.sub (tys' := [(cA, .object R_SR)]) [0] rfl
  have hFc := va_free (wc := dr_w x ra cA ad sd gm px) hD hS hA [2, 3, 4, 5, 6, 7] rfl
  refine va_calll (va_runV (As := [.int (nI k)]) (rest := []) ⟨hx, hb, hml, hown, htw⟩ (m_SD_nextLong l dC dI H.size x ra cA ad sd gm px k hk) (cwV 1 htw (gaV (wm 67 rfl) (wm 68 rfl) (wm 69 rfl) (wm 1 rfl) (wm 70 rfl)) rfl rfl rfl (by decide +kernel) ⟨Nat.le_of_ble_eq_true rfl, Nat.le_of_ble_eq_true rfl⟩) ⟨fun a U g mk q => ⟨q.1, q.2.1, q.2.2.1, fb_K q.2.2.2.1, q.2.2.2.2⟩, va_recv (q := (R_SD, F_SD, 1)) (q0 := 2) hK hP rfl rfl, fun U hU hW => ⟨rfl, congrArg Array.size hU, atH hU hPc, va_K.moved hW.alike hKc, hDc.weaken (fun _ _ _ _ => trivial)⟩⟩ rfl rfl hl.1 rfl (lv_room (Nat.le_of_ble_eq_true rfl)) d_law_282 ⟨hc, hs⟩) hS (fun q _ h => hFc q h) hFc (fun r u t H1 locs ht hvm hp hB hz1 hk1 hS => ?_)
  obtain ⟨hB, hB2⟩ := hB
  rw [ht] at hB
  obtain ⟨hP, hD⟩ := va_join (wr := [(sa, .inl (cL, 4, .inr (.inl (vp_updL sd k (sd k + gm k))))), (ta, .inl (cM, 4, .inr (.inl gm)))]) (w1 := dr_w x ra cA ad (vp_updL sd k (sd k + gm k)) gm px) hP hD [2, 3, 4, 5, 6, 7] [0, 1] rfl rfl (by decide) (by decide) hk1 hFc hB hB2
  generalize H1 = H at hP hS ⊢
  have hP : va_P (dC, dI) kcls (lw_w sa ta cL cM (vp_updL sd k (sd k + gm k)) gm (dr_w x ra cA ad (vp_updL sd k (sd k + gm k)) gm px)) H := hP
  have hD : va_D (lw_A s) (lw_w sa ta cL cM (vp_updL sd k (sd k + gm k)) gm (dr_w x ra cA ad (vp_updL sd k (sd k + gm k)) gm px)) := hD
  have hp : r = fm_64 (sd k + gm k) := hp
  subst hp
  refine lv_aload_n hx hb d_law_285 rfl (lv_at hl 5 rfl) ?_
  refine lv_iload hx hb d_law_286 (lv_at hl 1 rfl) ?_
  refine va_lald hx hb hK hP 0 1 rfl rfl hik d_law_288 ?_
  refine W.eq (g2 := F0 m 289 ls (.long ((vp_updL sd k (sd k + gm k)) k) :: [.long (fm_64 (sd k + gm k))])) (congrArg (fun j9 => F0 m 289 ls (.long ((vp_updL sd k (sd k + gm k)) j9) :: [.long (fm_64 (sd k + gm k))])) hck) ?_
  refine W.eq (g2 := F0 m 289 ls (.long (sd k + gm k) :: [.long (fm_64 (sd k + gm k))])) (congrArg (fun z => F0 m 289 ls (.long z :: [.long (fm_64 (sd k + gm k))])) pk_uLs) ?_
  refine va_calll (va_runS (As := [.long (sd k + gm k)]) (rest := [.long (fm_64 (sd k + gm k))]) ⟨hx, hb, hml, hown, htw⟩ (m_LW_mix64 l H.size (sd k + gm k)) (va_cwS 1 htw (gaS (wm 102 rfl) (wm 103 rfl) (wm 0 rfl) (wm 104 rfl)) rfl rfl rfl (by decide +kernel) ⟨Nat.le_of_ble_eq_true rfl, Nat.le_of_ble_eq_true rfl⟩) ⟨fun a U g mk q => q, fun U hU hW => ⟨rfl, congrArg Array.size hU⟩⟩ rfl rfl hl.1 rfl (lv_room (Nat.le_of_ble_eq_true rfl)) d_law_289 ⟨hc, hs⟩) hS (fun q _ h => Nat.le_trans hS.1 h) (fun q h => Nat.le_trans hS.1 h) (fun r u9 t H1 locs ht hvm hp _ hz1 hk1 hS => ?_)
  have hp : r = fm_64 (sd k + gm k) := hp
  subst hp
  have hP := jn_keep hP hk1
  generalize H1 = H at hP hS ⊢
  refine W.lcmp hx hb d_law_292 ?_
  refine lv_if_eq (tgt := 298) hx hb d_law_293 (by decide) (fun _ => ?_) (fun h => absurd ((lg_cmp_eq _ _).mpr rfl) h)
  exact kk ls H locs _ _ _ _ (lv_sub hl [3, 4, 5, 6, 7] rfl) hP hD hS

-- a turn: the script's int is taken apart, and the switch taken
set_option maxHeartbeats 8000000 in
theorem lw_turn (C : lw_H p s m c b dC dI cA cL cM) {L : Nat} {xs : Nat → Int32} (hL : L ≤ 3000) (hX : va_X b L xs s s.heap) (hbl : b < s.heap.size) (i : Nat) (hi : i < L) (ad : Nat → Nat) (sd gm : Nat → Int64) (px : Nat → Value) (ls : Array Slot) (hl : lv_has ls 12 [(0, .ref b), (1, .ref x), (2, .ref sa), (3, .ref ta), (4, .int (nI i))]) (hP : va_P (dC, dI) kcls (lw_w sa ta cL cM sd gm (dr_w x ra cA ad sd gm px)) H) (hD : va_D (lw_A s) (lw_w sa ta cL cM sd gm (dr_w x ra cA ad sd gm px))) (hS : va_S (lw_A s) s.heap H locs) (hc : cells + 2 ≤ 1200000) (hs : slots + 4 ≤ 5502250)
    (kk : ∀ (ls : Array Slot) (H1 : Heap) (locs1 : List Loc) (ad : Nat → Nat) (sd gm : Nat → Int64) (px : Nat → Value), lv_has ls 12 [(0, .ref b), (1, .ref x), (2, .ref sa), (3, .ref ta), (4, .int (nI i))] → va_P (dC, dI) kcls (lw_w sa ta cL cM sd gm (dr_w x ra cA ad sd gm px)) H1 → va_D (lw_A s) (lw_w sa ta cL cM sd gm (dr_w x ra cA ad sd gm px)) → va_S (lw_A s) s.heap H1 locs1 → W p l e room_1 s m #[Value.ref b] below meth c H1 locs1 (cells + 2) (slots + 4) Q (F0 m 298 ls [])) : W p l e room_1 s m #[Value.ref b] below meth c H locs cells slots Q (F0 m 63 ls []) := by
  have C0 := C
  obtain ⟨hx, hb, hml, hown, htw, hN, hK⟩ := C
  have hbA : ¬ (lw_A s) b := fun h => by
    have h : s.heap.size ≤ b := h
    omega
  refine lv_iload hx hb d_law_63 (lv_at hl 4 rfl) ?_
  refine lv_aload_n hx hb d_law_65 rfl (lv_at hl 0 rfl) ?_
  refine va_slen (A := lw_A s) hx hb hX hbl hbA hS d_law_66 ?_
  refine lv_icmp_ge (tgt := 304) hx hb d_law_67 (by decide) (fun h => absurd h (nI_ge (a := i) (b := L) hi (by omega))) (fun _ => ?_)
  refine lv_aload_n hx hb d_law_70 rfl (lv_at hl 0 rfl) ?_
  refine lv_iload hx hb d_law_71 (lv_at hl 4 rfl) ?_
  refine va_sld (A := lw_A s) hx hb hX hbl hbA hS (vp_in_nI hi (by omega)) d_law_73 ?_
  refine lv_topi (fun w _ => ?_)
  refine lv_istore hx hb d_law_74 hl (by decide) rfl (fun ls hl => ?_)
  have hl : lv_has ls 12 [(5, .int w), (0, .ref b), (1, .ref x), (2, .ref sa), (3, .ref ta), (4, .int (nI i))] := hl
  refine lv_iload hx hb d_law_76 (lv_at hl 0 rfl) ?_
  refine lv_iconst (v := 4) hx hb d_law_78 (by decide) ?_
  refine lv_ishr hx hb d_law_79 ?_
  refine lv_iconst (v := 3) hx hb d_law_80 (by decide) ?_
  refine lv_iand hx hb d_law_81 ?_
  refine lv_topi (fun y ey => ?_)
  obtain ⟨k, hk, hky⟩ := pk_andE (w >>> ((4 : Int32) &&& 31)) (m := 3) 2 (by decide)
  have ey := ey.trans hky
  subst ey
  refine lv_istore hx hb d_law_82 hl (by decide) rfl (fun ls hl => ?_)
  have hl : lv_has ls 12 [(6, .int (nI k)), (5, .int w), (0, .ref b), (1, .ref x), (2, .ref sa), (3, .ref ta), (4, .int (nI i))] := hl
  refine lv_iload hx hb d_law_84 (lv_at hl 1 rfl) ?_
  refine lv_bipush (v := 6) hx hb d_law_86 (by decide) ?_
  refine lv_ishr hx hb d_law_88 ?_
  refine lv_iconst (v := 3) hx hb d_law_89 (by decide) ?_
  refine lv_iand hx hb d_law_90 ?_
  refine lv_topi (fun y ey => ?_)
  obtain ⟨j, hj, hjy⟩ := pk_andE (w >>> ((6 : Int32) &&& 31)) (m := 3) 2 (by decide)
  have ey := ey.trans hjy
  subst ey
  refine lv_istore hx hb d_law_91 hl (by decide) rfl (fun ls hl => ?_)
  have hl : lv_has ls 12 [(7, .int (nI j)), (6, .int (nI k)), (5, .int w), (0, .ref b), (1, .ref x), (2, .ref sa), (3, .ref ta), (4, .int (nI i))] := hl
  refine lv_iload hx hb d_law_93 (lv_at hl 2 rfl) ?_
  refine lv_bipush (v := 15) hx hb d_law_95 (by decide) ?_
  refine lv_iand hx hb d_law_97 ?_
  refine lv_topi (fun y ey => ?_)
  obtain ⟨t, ht, hty⟩ := pk_andE w (m := 15) 4 (by decide)
  have ey := ey.trans hty
  subst ey
  have kk0 : ∀ (ls : Array Slot) (H1 : Heap) (locs1 : List Loc) (ad : Nat → Nat) (sd gm : Nat → Int64) (px : Nat → Value), lv_has ls 12 [(0, .ref b), (1, .ref x), (2, .ref sa), (3, .ref ta), (4, .int (nI i))] → va_P (dC, dI) kcls (lw_w sa ta cL cM sd gm (dr_w x ra cA ad sd gm px)) H1 → va_D (lw_A s) (lw_w sa ta cL cM sd gm (dr_w x ra cA ad sd gm px)) → va_S (lw_A s) s.heap H1 locs1 → W p l e room_1 s m #[Value.ref b] below meth c H1 locs1 (cells + 0) (slots + 0) Q (F0 m 298 ls []) :=
    fun ls H1 locs1 ad sd gm px a1 a2 a3 a4 => W.widen (by omega) (by omega) (kk ls H1 locs1 ad sd gm px a1 a2 a3 a4)
  rcases (show t = 0 ∨ t = 1 ∨ t = 2 ∨ t = 3 ∨ t = 4 ∨ t = 5 ∨ t = 6 ∨ t = 7 ∨ t = 8 ∨ t = 9 ∨ t = 10 ∨ t = 11 ∨ t = 12 ∨ t = 13 ∨ t = 14 ∨ t = 15 by omega) with rfl | rfl | rfl | rfl | rfl | rfl | rfl | rfl | rfl | rfl | rfl | rfl | rfl | rfl | rfl | rfl
  · refine lv_tableIn (off := 50) (tgt := 148) hx hb d_law_98 (by decide) (by decide) (by decide) (by decide) ?_
    exact lb_seed C0 i j k hk hj w ad sd gm px ls hl hP hD hS hc hs kk
  · refine lv_tableIn (off := 86) (tgt := 184) hx hb d_law_98 (by decide) (by decide) (by decide) (by decide) ?_
    exact lb_split C0 i j k hk hj w ad sd gm px ls hl hP hD hS hc hs kk
  · refine lv_tableIn (off := 86) (tgt := 184) hx hb d_law_98 (by decide) (by decide) (by decide) (by decide) ?_
    exact lb_split C0 i j k hk hj w ad sd gm px ls hl hP hD hS hc hs kk
  · refine lv_tableIn (off := 86) (tgt := 184) hx hb d_law_98 (by decide) (by decide) (by decide) (by decide) ?_
    exact lb_split C0 i j k hk hj w ad sd gm px ls hl hP hD hS hc hs kk
  · refine lv_tableIn (off := 141) (tgt := 239) hx hb d_law_98 (by decide) (by decide) (by decide) (by decide) ?_
    exact lb_int C0 i j k hk hj w ad sd gm px ls hl hP hD hS (by omega) (by omega) kk0
  · refine lv_tableIn (off := 141) (tgt := 239) hx hb d_law_98 (by decide) (by decide) (by decide) (by decide) ?_
    exact lb_int C0 i j k hk hj w ad sd gm px ls hl hP hD hS (by omega) (by omega) kk0
  · refine lv_tableIn (off := 141) (tgt := 239) hx hb d_law_98 (by decide) (by decide) (by decide) (by decide) ?_
    exact lb_int C0 i j k hk hj w ad sd gm px ls hl hP hD hS (by omega) (by omega) kk0
  · refine lv_tableIn (off := 141) (tgt := 239) hx hb d_law_98 (by decide) (by decide) (by decide) (by decide) ?_
    exact lb_int C0 i j k hk hj w ad sd gm px ls hl hP hD hS (by omega) (by omega) kk0
  · refine lv_tableIn (off := 141) (tgt := 239) hx hb d_law_98 (by decide) (by decide) (by decide) (by decide) ?_
    exact lb_int C0 i j k hk hj w ad sd gm px ls hl hP hD hS (by omega) (by omega) kk0
  · refine lv_tableOut (tgt := 268) hx hb d_law_98 (by decide) (by decide) ?_
    exact lb_long C0 i j k hk hj w ad sd gm px ls hl hP hD hS (by omega) (by omega) kk0
  · refine lv_tableOut (tgt := 268) hx hb d_law_98 (by decide) (by decide) ?_
    exact lb_long C0 i j k hk hj w ad sd gm px ls hl hP hD hS (by omega) (by omega) kk0
  · refine lv_tableOut (tgt := 268) hx hb d_law_98 (by decide) (by decide) ?_
    exact lb_long C0 i j k hk hj w ad sd gm px ls hl hP hD hS (by omega) (by omega) kk0
  · refine lv_tableOut (tgt := 268) hx hb d_law_98 (by decide) (by decide) ?_
    exact lb_long C0 i j k hk hj w ad sd gm px ls hl hP hD hS (by omega) (by omega) kk0
  · refine lv_tableOut (tgt := 268) hx hb d_law_98 (by decide) (by decide) ?_
    exact lb_long C0 i j k hk hj w ad sd gm px ls hl hP hD hS (by omega) (by omega) kk0
  · refine lv_tableOut (tgt := 268) hx hb d_law_98 (by decide) (by decide) ?_
    exact lb_long C0 i j k hk hj w ad sd gm px ls hl hP hD hS (by omega) (by omega) kk0
  · refine lv_tableOut (tgt := 268) hx hb d_law_98 (by decide) (by decide) ?_
    exact lb_long C0 i j k hk hj w ad sd gm px ls hl hP hD hS (by omega) (by omega) kk0

-- the loop over the script
theorem lw_loop (C : lw_H p s m c b dC dI cA cL cM) {L : Nat} {xs : Nat → Int32} (hL : L ≤ 3000) (hX : va_X b L xs s s.heap) (hbl : b < s.heap.size)
    (kk : ∀ (ls : Array Slot) (H1 : Heap) (locs1 : List Loc), va_S (lw_A s) s.heap H1 locs1 → W p l e room_1 s m #[Value.ref b] below meth c H1 locs1 (12 + 2 * L) (29 + 4 * L) Q (F0 m 304 ls [])) :
    ∀ (n i : Nat) (ls : Array Slot) (H : Heap) (locs : List Loc) (ad : Nat → Nat) (sd gm : Nat → Int64) (px : Nat → Value), i + n = L → lv_has ls 12 [(0, .ref b), (1, .ref x), (2, .ref sa), (3, .ref ta), (4, .int (nI i))] → va_P (dC, dI) kcls (lw_w sa ta cL cM sd gm (dr_w x ra cA ad sd gm px)) H → va_D (lw_A s) (lw_w sa ta cL cM sd gm (dr_w x ra cA ad sd gm px)) → va_S (lw_A s) s.heap H locs → W p l e room_1 s m #[Value.ref b] below meth c H locs (12 + 2 * i) (29 + 4 * i) Q (F0 m 63 ls []) := by
  intro n
  induction n with
  | zero =>
    intro i ls H locs ad sd gm px hn hl hP hD hS
    have hn : i = L := by omega
    subst hn
    obtain ⟨hx, hb, hml, hown, htw, hN, hK⟩ := C
    have hbA : ¬ (lw_A s) b := fun h => by
      have h : s.heap.size ≤ b := h
      omega
    refine lv_iload hx hb d_law_63 (lv_at hl 4 rfl) ?_
    refine lv_aload_n hx hb d_law_65 rfl (lv_at hl 0 rfl) ?_
    refine va_slen (A := lw_A s) hx hb hX hbl hbA hS d_law_66 ?_
    refine lv_icmp_ge (tgt := 304) hx hb d_law_67 (by decide) (fun _ => ?_) (fun h => absurd (Int32.le_refl _) h)
    exact kk ls H locs hS
  | succ n ih =>
    intro i ls H locs ad sd gm px hn hl hP hD hS
    refine lw_turn C hL hX hbl i (by omega) ad sd gm px ls hl hP hD hS (by omega) (by omega) (fun ls H locs ad sd gm px hl hP hD hS => ?_)
    obtain ⟨hx, hb, -⟩ := C
    refine lv_iinc (k := 4) (v := nI (i + 1)) hx hb d_law_298 hl rfl (nI_1 i) (by decide) rfl (fun ls hl => ?_)
    refine lv_goto (tgt := 63) hx hb d_law_301 (by decide) ?_
    exact ih (i + 1) ls H locs ad sd gm px (by omega) (lv_sub hl [1, 2, 3, 4, 0] rfl) hP hD hS
end LB
end
section
/-! THE CLAIM OUT OF ONE WALK OF THE LAW'S BODY. Your part is whole_start (and what it stands on); all else here is the same for every law, but numbers. -/
def lw_P (b : Addr) (xs : List Int32) (args : Array Value) (s : State) : Prop := args = #[.ref b] ∧ s.IntsAt b xs ∧ xs.length ≤ 3000 ∧ (Jvm.Cond.and given_1 narrow_1).before args s = true
def lw_Q (_ : Array Value) (s : State) (o : Outcome) (t : State) : Prop := o = .returned (some (.int 1)) ∧ Framed s o t [] 1200000 5502250
def lw_Z (below : List Frame) (a : Array Value) (s : State) : State → Prop := fun t => ∃ o, t.status = .running ∧ Ended t below o ∧ lw_Q a s o t
/-- the law's own end, with 1 on the stack, nothing written that was there before, its room as the claim has it -/
theorem lw_ret {p : Program} {l : Launch} {e : Env} {s : State} {m : MethodId} {below : List Frame} {meth : Method} {c : Code} {b : Nat} (hx : p.tables.exec = Jvm.exec) (hb : c.code = code) (hr : meth.sig.returnType = ret) (hlocks : meth.locks = false) {pc : Nat} {H : Heap} {ls : Array Slot} (hdg : decode code pc = .ok (.ireturn, 1)) : W p l e room_1 s m #[Value.ref b] below meth c H [] 1200000 5502250 (lw_Z below #[Value.ref b] s) (F0 m pc ls [.int 1]) := by
  intro T hT X
  obtain ⟨fs, hret, hrun, hended, hW, hframe⟩ := X.leave (v := some (.int 1)) (hlocks := hlocks) (fun h => by rw [hr] at h; cases h)
  have hmeth' : T.vm.method? m = some meth := X.method'
  refine ⟨T.setFrames fs, ?_, .returned (some (.int 1)), hrun, hended, rfl, ⟨_, rfl⟩, hW, hframe⟩
  jvm_step X.here [X.here.top, hx, hb, hdg, hmeth', hr, ret, narrow_b1]
  (try refine ⟨rfl, ?_⟩); (try refine ⟨rfl, ?_⟩)
  first | (intro acts; rw [hret _ acts rfl rfl rfl]) | rw [hret _ _ rfl rfl rfl]
  exact Steps.refl _
/-- what holds at the law's entry: the machine, the code, the tables' words (any of lw_tbl by 'hts w (by decide +kernel)'), the script of L ints xs at the cell b, what the Statement gives of the start (any of its parts by flat_of_before) -/
def lw_At (p : Program) (s : State) (m : MethodId) (meth : Method) (c : Code) (b L : Nat) (xs : Nat → Int32) : Prop :=
  p.tables.exec = Jvm.exec ∧ c.code = code ∧ meth.sig.returnType = ret ∧ c.maxLocals = 12 ∧ s.vm.findClass R_law = some m.cls ∧ (∀ w ∈ lw_tbl, w.before #[Value.ref b] s = true) ∧ va_X b L xs s s.heap ∧ b < s.heap.size ∧ meth.locks = false ∧ (Jvm.Cond.and given_1 narrow_1).before #[Value.ref b] s = true
-- ===== YOUR PART BEGINS =====
-- from the entry, for every script of at most 3000 ints, the law comes to its end with true
set_option maxHeartbeats 8000000 in
theorem whole_start {p : Program} {e : Env} {s : State} {m : MethodId} {below : List Frame} {meth : Method} {c : Code} (l : Launch) {b L : Nat} {xs : Nat → Int32} (hL : L ≤ 3000) (C0 : lw_At p s m meth c b L xs) : W p l e room_1 s m #[Value.ref b] below meth c s.heap [] 0 0 (lw_Z below #[Value.ref b] s) (entryFrame m ([Value.ref b] : List Value).toArray 12) := by
  obtain ⟨hx, hb, hr, hml, hown, hts, hX, hbl, hlocks, hgv⟩ := C0
  have htw : ∀ w ∈ W_all, w.before #[Value.ref b] s = true := fun w hw => hts w (wa_tbl w hw).1
  have hN : va_Nw k_nest s := va_Nw.of rfl (hts k_nest (List.mem_append_right _ wa_nest))
  have hO : va_AO R_SR s := va_AO.of (hts _ (List.mem_append_right _ wa_over))
  obtain ⟨dC, dI, hK⟩ : ∃ (dC : Nat → ClassId) (dI : Nat → Nat → Nat), va_K (dC, dI) kcls [] s := by
    obtain ⟨c0, i0, k0⟩ := u_known (C := R_SD) (T := F_SD) (N := 1) htw in_SD (htw (.instantiable R_SD 1) (wm 9 rfl))
    obtain ⟨c1, i1, k1⟩ := u_known (C := R_SR) (T := F_SR) (N := 3) htw in_SR (htw (.instantiable R_SR 3) (wm 17 rfl))
    obtain ⟨c2, i2, k2⟩ := u_known (C := R_PX) (T := F_PX) (N := 1) htw in_PX (htw (.instantiable R_PX 1) (wm 27 rfl))
    refine ⟨fun j => match j with | 0 => c0 | 1 => c1 | _ => c2, fun j => match j with | 0 => i0 | 1 => i1 | _ => i2, fun j q hq => ?_, fun k q h => by cases h⟩
    have hj : j < 3 := (List.getElem?_eq_some_iff.mp hq).1
    rcases (show j = 0 ∨ j = 1 ∨ j = 2 by omega) with rfl | rfl | rfl <;> cases hq
    · exact k0
    · exact k1
    · exact k2
  have hA : ∀ q : Nat, s.heap.size ≤ q → lw_A s q := fun q h => h
  have hP : va_P (dC, dI) kcls [] s.heap := fun k q h => by cases h
  have hD : va_D (lw_A s) [] := ⟨fun i j p q h => (by cases h), fun k q h => (by cases h)⟩
  have hS : va_S (lw_A s) s.heap s.heap [] := va_S.rf
  have hl := lv_entry ([.ref b]) (n := 12) (Nat.le_of_ble_eq_true rfl)
  rw [lg_entry_eq]
  generalize (lg_sl ([.ref b]) ++ List.replicate (12 - (lg_sl ([.ref b])).length) Slot.unset).toArray = ls at hl ⊢
  have hl : lv_has ls 12 [(0, .ref b)] := hl
  refine va_new (ci := 0) (fs := [.null]) (C := R_SD) (T := F_SD) (N := 1) hx hb htw in_SD t_SD t_SD_ok hown (htw _ (wm 8 rfl)) (htw _ (wm 9 rfl)) (htw _ (wm 1 rfl)) hK hP hD hS hA rfl (fun j hj => by rcases (show j = 0 by omega) with rfl <;> rfl) (Nat.le_of_ble_eq_true rfl) (Nat.le_of_ble_eq_true rfl) d_law_0 (fun x H hP hD hS => ?_)
  have hP : va_P (dC, dI) kcls [(x, .inr (0, [.null]))] H := hP
  have hD : va_D (lw_A s) [(x, .inr (0, [.null]))] := hD
  refine W.widen (k := 1) (n := 1) (by omega) (by omega) ?_
  refine lv_dup hx hb d_law_3 rfl ?_
  have hF := jn_free (i := 0) (n := H.size) hD rfl (fun q h => hA q (Nat.le_trans hS.1 h))
  refine va_callv (va_runI (As := []) (rest := [.ref x]) ⟨hx, hb, hml, hown, htw⟩ (m_SD_init l dC dI H.size x) (cwI 0 htw (gaI (wm 12 rfl)) rfl rfl rfl (htw _ (wm 1 rfl)) (htw _ (wm 10 rfl)) (htw _ (wm 11 rfl)) rfl (by decide +kernel) ⟨Nat.le_of_ble_eq_true rfl, Nat.le_of_ble_eq_true rfl⟩) ⟨fun a U g mk q => ⟨q.1, q.2.1, q.2.2.1, fb_K q.2.2.2.1, fb_N q.2.2.2.2.1, fb_A q.2.2.2.2.2⟩, fun U hU hW => ⟨rfl, congrArg Array.size hU, atH hU hP, va_K.moved hW.alike hK, va_Nw.warmM hW hN, va_AO.moved hW.alike hO⟩⟩ rfl rfl hl.1 rfl (lv_room (Nat.le_of_ble_eq_true rfl)) d_law_4 ⟨Nat.le_of_ble_eq_true rfl, Nat.le_of_ble_eq_true rfl⟩) hS (fun q _ h => hF q h) hF (fun u t H1 locs ht hvm hp hB hz1 hk1 hS => ?_)
  obtain ⟨ra, cA, ad, px⟩ := u
  obtain ⟨hP, hD, hK⟩ := hB
  rw [ht] at hP
  have hP : va_P (dC, dI) kcls (dr_w x ra cA ad lN (fun _ => (-7046029254386353131)) px) H1 := hP
  have hD : va_D (lw_A s) (dr_w x ra cA ad lN (fun _ => (-7046029254386353131)) px) := hD.weaken (fun _ _ _ h => hF _ h)
  have hK : va_K (dC, dI) kcls [(cA, .object R_SR)] s := va_K.moved hvm.symm hK
  generalize H1 = H at hP hS ⊢
  refine W.widen (k := 10) (n := 21) (by omega) (by omega) ?_
  refine lv_astore_n hx hb d_law_7 rfl hl (by decide) rfl (fun ls hl => ?_)
  have hl : lv_has ls 12 [(1, .ref x), (0, .ref b)] := hl
  refine lv_iconst (v := 4) hx hb d_law_8 (by decide) ?_
  refine va_newa (N' := 4) (a0 := (4, .inr (.inl (fun _ => 0)))) hx hb (htw _ (wm 121 rfl)) rfl hK hP hD hS hA (fun _ => rfl) (by decide) (by decide) (by decide) (Nat.le_of_ble_eq_true rfl) (Nat.le_of_ble_eq_true rfl) d_law_9 (fun sa cL H hK hP hD hS => ?_)
  have hK : va_K (dC, dI) kcls [(cA, .object R_SR), (cL, .long)] s := hK
  have hP : va_P (dC, dI) kcls (dr_w x ra cA ad lN (fun _ => (-7046029254386353131)) px ++ [(sa, .inl (cL, 4, .inr (.inl (fun _ => 0))))]) H := hP
  have hD : va_D (lw_A s) (dr_w x ra cA ad lN (fun _ => (-7046029254386353131)) px ++ [(sa, .inl (cL, 4, .inr (.inl (fun _ => 0))))]) := hD
  refine W.widen (k := 11) (n := 25) (by omega) (by omega) ?_
  refine lv_dup hx hb d_law_11 rfl ?_
  refine lv_iconst (v := 0) hx hb d_law_12 (by decide) ?_
  refine lv_lconst (v := 0) hx hb d_law_13 (by decide) ?_
  refine va_last (x := 0) hx hb hK hP hD hS 6 1 rfl rfl (show vp_in (nI 0) 4 from vp_in_nI (by decide) (by decide)) d_law_14 (fun H locs hP hD hS => ?_)
  have hP : va_P (dC, dI) kcls (dr_w x ra cA ad lN (fun _ => (-7046029254386353131)) px ++ [(sa, .inl (cL, 4, .inr (.inl (vp_updL (fun _ => 0) 0 0))))]) H := hP
  have hD : va_D (lw_A s) (dr_w x ra cA ad lN (fun _ => (-7046029254386353131)) px ++ [(sa, .inl (cL, 4, .inr (.inl (vp_updL (fun _ => 0) 0 0))))]) := hD
  refine lv_dup hx hb d_law_15 rfl ?_
  refine lv_iconst (v := 1) hx hb d_law_16 (by decide) ?_
  refine lv_lconst (v := 1) hx hb d_law_17 (by decide) ?_
  refine va_last (x := 1) hx hb hK hP hD hS 6 1 rfl rfl (show vp_in (nI 1) 4 from vp_in_nI (by decide) (by decide)) d_law_18 (fun H locs hP hD hS => ?_)
  have hP : va_P (dC, dI) kcls (dr_w x ra cA ad lN (fun _ => (-7046029254386353131)) px ++ [(sa, .inl (cL, 4, .inr (.inl (vp_updL (vp_updL (fun _ => 0) 0 0) 1 1))))]) H := hP
  have hD : va_D (lw_A s) (dr_w x ra cA ad lN (fun _ => (-7046029254386353131)) px ++ [(sa, .inl (cL, 4, .inr (.inl (vp_updL (vp_updL (fun _ => 0) 0 0) 1 1))))]) := hD
  refine lv_dup hx hb d_law_19 rfl ?_
  refine lv_iconst (v := 2) hx hb d_law_20 (by decide) ?_
  refine lv_ldc2 (v := (2)) hx hb hown (htw _ (wm 118 rfl)) d_law_21 ?_
  refine va_last (x := 2) hx hb hK hP hD hS 6 1 rfl rfl (show vp_in (nI 2) 4 from vp_in_nI (by decide) (by decide)) d_law_24 (fun H locs hP hD hS => ?_)
  have hP : va_P (dC, dI) kcls (dr_w x ra cA ad lN (fun _ => (-7046029254386353131)) px ++ [(sa, .inl (cL, 4, .inr (.inl (vp_updL (vp_updL (vp_updL (fun _ => 0) 0 0) 1 1) 2 2))))]) H := hP
  have hD : va_D (lw_A s) (dr_w x ra cA ad lN (fun _ => (-7046029254386353131)) px ++ [(sa, .inl (cL, 4, .inr (.inl (vp_updL (vp_updL (vp_updL (fun _ => 0) 0 0) 1 1) 2 2))))]) := hD
  refine lv_dup hx hb d_law_25 rfl ?_
  refine lv_iconst (v := 3) hx hb d_law_26 (by decide) ?_
  refine lv_ldc2 (v := (3)) hx hb hown (htw _ (wm 119 rfl)) d_law_27 ?_
  refine va_last (x := 3) hx hb hK hP hD hS 6 1 rfl rfl (show vp_in (nI 3) 4 from vp_in_nI (by decide) (by decide)) d_law_30 (fun H locs hP hD hS => ?_)
  have hP : va_P (dC, dI) kcls (dr_w x ra cA ad lN (fun _ => (-7046029254386353131)) px ++ [(sa, .inl (cL, 4, .inr (.inl (vp_updL (vp_updL (vp_updL (vp_updL (fun _ => 0) 0 0) 1 1) 2 2) 3 3))))]) H := hP
  have hD : va_D (lw_A s) (dr_w x ra cA ad lN (fun _ => (-7046029254386353131)) px ++ [(sa, .inl (cL, 4, .inr (.inl (vp_updL (vp_updL (vp_updL (vp_updL (fun _ => 0) 0 0) 1 1) 2 2) 3 3))))]) := hD
  refine lv_astore_n hx hb d_law_31 rfl hl (by decide) rfl (fun ls hl => ?_)
  have hl : lv_has ls 12 [(2, .ref sa), (1, .ref x), (0, .ref b)] := hl
  refine lv_iconst (v := 4) hx hb d_law_32 (by decide) ?_
  refine va_newa (N' := 4) (a0 := (4, .inr (.inl (fun _ => 0)))) hx hb (htw _ (wm 121 rfl)) rfl hK hP hD hS hA (fun _ => rfl) (by decide) (by decide) (by decide) (Nat.le_of_ble_eq_true rfl) (Nat.le_of_ble_eq_true rfl) d_law_33 (fun ta cM H hK hP hD hS => ?_)
  have hK : va_K (dC, dI) kcls [(cA, .object R_SR), (cL, .long), (cM, .long)] s := hK
  have hP : va_P (dC, dI) kcls (dr_w x ra cA ad lN (fun _ => (-7046029254386353131)) px ++ [(sa, .inl (cL, 4, .inr (.inl (vp_updL (vp_updL (vp_updL (vp_updL (fun _ => 0) 0 0) 1 1) 2 2) 3 3)))), (ta, .inl (cM, 4, .inr (.inl (fun _ => 0))))]) H := hP
  have hD : va_D (lw_A s) (dr_w x ra cA ad lN (fun _ => (-7046029254386353131)) px ++ [(sa, .inl (cL, 4, .inr (.inl (vp_updL (vp_updL (vp_updL (vp_updL (fun _ => 0) 0 0) 1 1) 2 2) 3 3)))), (ta, .inl (cM, 4, .inr (.inl (fun _ => 0))))]) := hD
  refine W.widen (k := 12) (n := 29) (by omega) (by omega) ?_
  refine lv_dup hx hb d_law_35 rfl ?_
  refine lv_iconst (v := 0) hx hb d_law_36 (by decide) ?_
  refine lv_ldc2 (v := (-7046029254386353131)) hx hb hown (htw _ (wm 120 rfl)) d_law_37 ?_
  refine va_last (x := (-7046029254386353131)) hx hb hK hP hD hS 7 2 rfl rfl (show vp_in (nI 0) 4 from vp_in_nI (by decide) (by decide)) d_law_40 (fun H locs hP hD hS => ?_)
  have hP : va_P (dC, dI) kcls (dr_w x ra cA ad lN (fun _ => (-7046029254386353131)) px ++ [(sa, .inl (cL, 4, .inr (.inl (vp_updL (vp_updL (vp_updL (vp_updL (fun _ => 0) 0 0) 1 1) 2 2) 3 3)))), (ta, .inl (cM, 4, .inr (.inl (vp_updL (fun _ => 0) 0 (-7046029254386353131)))))]) H := hP
  have hD : va_D (lw_A s) (dr_w x ra cA ad lN (fun _ => (-7046029254386353131)) px ++ [(sa, .inl (cL, 4, .inr (.inl (vp_updL (vp_updL (vp_updL (vp_updL (fun _ => 0) 0 0) 1 1) 2 2) 3 3)))), (ta, .inl (cM, 4, .inr (.inl (vp_updL (fun _ => 0) 0 (-7046029254386353131)))))]) := hD
  refine lv_dup hx hb d_law_41 rfl ?_
  refine lv_iconst (v := 1) hx hb d_law_42 (by decide) ?_
  refine lv_ldc2 (v := (-7046029254386353131)) hx hb hown (htw _ (wm 120 rfl)) d_law_43 ?_
  refine va_last (x := (-7046029254386353131)) hx hb hK hP hD hS 7 2 rfl rfl (show vp_in (nI 1) 4 from vp_in_nI (by decide) (by decide)) d_law_46 (fun H locs hP hD hS => ?_)
  have hP : va_P (dC, dI) kcls (dr_w x ra cA ad lN (fun _ => (-7046029254386353131)) px ++ [(sa, .inl (cL, 4, .inr (.inl (vp_updL (vp_updL (vp_updL (vp_updL (fun _ => 0) 0 0) 1 1) 2 2) 3 3)))), (ta, .inl (cM, 4, .inr (.inl (vp_updL (vp_updL (fun _ => 0) 0 (-7046029254386353131)) 1 (-7046029254386353131)))))]) H := hP
  have hD : va_D (lw_A s) (dr_w x ra cA ad lN (fun _ => (-7046029254386353131)) px ++ [(sa, .inl (cL, 4, .inr (.inl (vp_updL (vp_updL (vp_updL (vp_updL (fun _ => 0) 0 0) 1 1) 2 2) 3 3)))), (ta, .inl (cM, 4, .inr (.inl (vp_updL (vp_updL (fun _ => 0) 0 (-7046029254386353131)) 1 (-7046029254386353131)))))]) := hD
  refine lv_dup hx hb d_law_47 rfl ?_
  refine lv_iconst (v := 2) hx hb d_law_48 (by decide) ?_
  refine lv_ldc2 (v := (-7046029254386353131)) hx hb hown (htw _ (wm 120 rfl)) d_law_49 ?_
  refine va_last (x := (-7046029254386353131)) hx hb hK hP hD hS 7 2 rfl rfl (show vp_in (nI 2) 4 from vp_in_nI (by decide) (by decide)) d_law_52 (fun H locs hP hD hS => ?_)
  have hP : va_P (dC, dI) kcls (dr_w x ra cA ad lN (fun _ => (-7046029254386353131)) px ++ [(sa, .inl (cL, 4, .inr (.inl (vp_updL (vp_updL (vp_updL (vp_updL (fun _ => 0) 0 0) 1 1) 2 2) 3 3)))), (ta, .inl (cM, 4, .inr (.inl (vp_updL (vp_updL (vp_updL (fun _ => 0) 0 (-7046029254386353131)) 1 (-7046029254386353131)) 2 (-7046029254386353131)))))]) H := hP
  have hD : va_D (lw_A s) (dr_w x ra cA ad lN (fun _ => (-7046029254386353131)) px ++ [(sa, .inl (cL, 4, .inr (.inl (vp_updL (vp_updL (vp_updL (vp_updL (fun _ => 0) 0 0) 1 1) 2 2) 3 3)))), (ta, .inl (cM, 4, .inr (.inl (vp_updL (vp_updL (vp_updL (fun _ => 0) 0 (-7046029254386353131)) 1 (-7046029254386353131)) 2 (-7046029254386353131)))))]) := hD
  refine lv_dup hx hb d_law_53 rfl ?_
  refine lv_iconst (v := 3) hx hb d_law_54 (by decide) ?_
  refine lv_ldc2 (v := (-7046029254386353131)) hx hb hown (htw _ (wm 120 rfl)) d_law_55 ?_
  refine va_last (x := (-7046029254386353131)) hx hb hK hP hD hS 7 2 rfl rfl (show vp_in (nI 3) 4 from vp_in_nI (by decide) (by decide)) d_law_58 (fun H locs hP hD hS => ?_)
  have hP : va_P (dC, dI) kcls (dr_w x ra cA ad lN (fun _ => (-7046029254386353131)) px ++ [(sa, .inl (cL, 4, .inr (.inl (vp_updL (vp_updL (vp_updL (vp_updL (fun _ => 0) 0 0) 1 1) 2 2) 3 3)))), (ta, .inl (cM, 4, .inr (.inl (vp_updL (vp_updL (vp_updL (vp_updL (fun _ => 0) 0 (-7046029254386353131)) 1 (-7046029254386353131)) 2 (-7046029254386353131)) 3 (-7046029254386353131)))))]) H := hP
  have hD : va_D (lw_A s) (dr_w x ra cA ad lN (fun _ => (-7046029254386353131)) px ++ [(sa, .inl (cL, 4, .inr (.inl (vp_updL (vp_updL (vp_updL (vp_updL (fun _ => 0) 0 0) 1 1) 2 2) 3 3)))), (ta, .inl (cM, 4, .inr (.inl (vp_updL (vp_updL (vp_updL (vp_updL (fun _ => 0) 0 (-7046029254386353131)) 1 (-7046029254386353131)) 2 (-7046029254386353131)) 3 (-7046029254386353131)))))]) := hD
  refine lv_astore_n hx hb d_law_59 rfl hl (by decide) rfl (fun ls hl => ?_)
  have hl : lv_has ls 12 [(3, .ref ta), (2, .ref sa), (1, .ref x), (0, .ref b)] := hl
  refine lv_iconst (v := 0) hx hb d_law_60 (by decide) ?_
  refine lv_istore hx hb d_law_61 hl (by decide) rfl (fun ls hl => ?_)
  have hl : lv_has ls 12 [(4, .int 0), (3, .ref ta), (2, .ref sa), (1, .ref x), (0, .ref b)] := hl
  refine W.eq (g2 := F0 m 63 ls []) rfl ?_
  have hP : va_P (dC, dI) kcls (lw_w sa ta cL cM (vp_updL (vp_updL (vp_updL (vp_updL (fun _ => 0) 0 0) 1 1) 2 2) 3 3) (vp_updL (vp_updL (vp_updL (vp_updL (fun _ => 0) 0 (-7046029254386353131)) 1 (-7046029254386353131)) 2 (-7046029254386353131)) 3 (-7046029254386353131)) (dr_w x ra cA ad (vp_updL (vp_updL (vp_updL (vp_updL (fun _ => 0) 0 0) 1 1) 2 2) 3 3) (vp_updL (vp_updL (vp_updL (vp_updL (fun _ => 0) 0 (-7046029254386353131)) 1 (-7046029254386353131)) 2 (-7046029254386353131)) 3 (-7046029254386353131)) px)) H := hP.sub (ws' := lw_w sa ta cL cM (vp_updL (vp_updL (vp_updL (vp_updL (fun _ => 0) 0 0) 1 1) 2 2) 3 3) (vp_updL (vp_updL (vp_updL (vp_updL (fun _ => 0) 0 (-7046029254386353131)) 1 (-7046029254386353131)) 2 (-7046029254386353131)) 3 (-7046029254386353131)) (dr_w x ra cA ad (vp_updL (vp_updL (vp_updL (vp_updL (fun _ => 0) 0 0) 1 1) 2 2) 3 3) (vp_updL (vp_updL (vp_updL (vp_updL (fun _ => 0) 0 (-7046029254386353131)) 1 (-7046029254386353131)) 2 (-7046029254386353131)) 3 (-7046029254386353131)) px)) [6, 7, 0, 1, 2, 3, 4, 5] rfl
  have hD : va_D (lw_A s) (lw_w sa ta cL cM (vp_updL (vp_updL (vp_updL (vp_updL (fun _ => 0) 0 0) 1 1) 2 2) 3 3) (vp_updL (vp_updL (vp_updL (vp_updL (fun _ => 0) 0 (-7046029254386353131)) 1 (-7046029254386353131)) 2 (-7046029254386353131)) 3 (-7046029254386353131)) (dr_w x ra cA ad (vp_updL (vp_updL (vp_updL (vp_updL (fun _ => 0) 0 0) 1 1) 2 2) 3 3) (vp_updL (vp_updL (vp_updL (vp_updL (fun _ => 0) 0 (-7046029254386353131)) 1 (-7046029254386353131)) 2 (-7046029254386353131)) 3 (-7046029254386353131)) px)) := hD.sub (ws' := lw_w sa ta cL cM (vp_updL (vp_updL (vp_updL (vp_updL (fun _ => 0) 0 0) 1 1) 2 2) 3 3) (vp_updL (vp_updL (vp_updL (vp_updL (fun _ => 0) 0 (-7046029254386353131)) 1 (-7046029254386353131)) 2 (-7046029254386353131)) 3 (-7046029254386353131)) (dr_w x ra cA ad (vp_updL (vp_updL (vp_updL (vp_updL (fun _ => 0) 0 0) 1 1) 2 2) 3 3) (vp_updL (vp_updL (vp_updL (vp_updL (fun _ => 0) 0 (-7046029254386353131)) 1 (-7046029254386353131)) 2 (-7046029254386353131)) 3 (-7046029254386353131)) px)) [6, 7, 0, 1, 2, 3, 4, 5] (by decide) rfl
  refine lw_loop ⟨hx, hb, hml, hown, htw, hN, hK⟩ hL hX hbl (fun ls H locs hS => ?_) L 0 ls H locs _ _ _ _ (Nat.zero_add L) (lv_sub hl [4, 3, 2, 1, 0] rfl) hP hD hS
  refine va_forget (fun q hq => hS.2.2 q hq) ?_
  refine W.widen (k := 1200000) (n := 5502250) (by omega) (by omega) ?_
  refine lv_iconst (v := 1) hx hb d_law_304 (by decide) ?_
  exact lw_ret hx hb hr hlocks d_law_305
-- ===== YOUR PART ENDS =====
set_option maxHeartbeats 4000000 in
theorem lw_walk (l : Launch) (b : Addr) (xs : List Int32) : MetFree l x (headSpec (Jvm.Cond.code x code maxLocals ret :: tables_1) room_1) (lw_P b xs) (fun _ _ _ _ _ => True) lw_Q := by
  refine MetFree.of_bodyS (code := code) (maxLocals := maxLocals) (ret := ret) (by decide) ?_ ?_
  · intro args s m h hn
    obtain ⟨meth, c, h1, h2, h3, h4, h5, h6, -, -⟩ := Cond.code_spec hn (atoms_spec (ws := Jvm.Cond.code x code maxLocals ret :: tables_1) h _ List.mem_cons_self)
    exact ⟨meth, c, h1, h2, h3, h4, h5, h6⟩
  · intro p e s m args below meth c s₁ B hml0 hP _
    obtain ⟨rfl, hx, hbd, hgv⟩ := hP
    obtain ⟨scr, harrAt, hlist, hof, hsmall⟩ := hx
    obtain ⟨hcb, hkn, -, -⟩ := State.arrayAt?_spec harrAt
    have hown : s.vm.findClass R_law = some m.cls := findClass_of_methodNamed B.named
    have hts0 : ∀ c ∈ (Jvm.Cond.code x code maxLocals ret :: tables_1), c.before #[Value.ref b] s = true := atoms_spec (ws := Jvm.Cond.code x code maxLocals ret :: tables_1) B.pre
    have hts : ∀ w ∈ lw_tbl, w.before #[Value.ref b] s = true := k2_hts_sels lw_privs (fun w hw => hts0 w (List.mem_cons_of_mem _ hw)) lw_privs_ok
    have hml : c.maxLocals = 12 := B.maxLocals_eq (hts0 _ List.mem_cons_self)
    have X₀ : Stand p l e room_1 s m #[Value.ref b] below meth c s₁ [] 0 0 := Stand.of_body B
    have hh0 : s₁.heap = s.heap := by rw [B.state]; rfl
    have hsz : scr.slots.size = xs.length := by rw [← Array.length_toList, hlist, List.length_map]
    have hval : ∀ j : Nat, j < xs.length → scr.slots[j]? = some (.int (xs.getD j 0)) := fun j hj => by
      rw [← Array.getElem?_toList, hlist]
      simp [hj]
    have hbl : b < s.heap.size := (Array.getElem?_eq_some_iff.mp hcb).1
    have hX : va_X b xs.length (fun j => xs.getD j 0) s s.heap := ⟨scr, hcb, hof, hkn, hsz, hval⟩
    have K : W p l e room_1 s m #[Value.ref b] below meth c s₁.heap [] 0 0 (lw_Z below #[Value.ref b] s) (entryFrame m ([Value.ref b] : List Value).toArray 12) := by
      rw [hh0]
      exact whole_start l hbd ⟨B.exec, B.bytes, B.returns, hml, hown, hts, hX, hbl, B.notSynchronized, hgv⟩
    obtain ⟨t, a1, o, b1, b2, b3⟩ := K s₁ rfl X₀
    exact ⟨t, o, a1, b1, b2, b3⟩
theorem lw_pre_spec {args : Array Value} {s : State} (h : (Jvm.Cond.and given_1 narrow_1).before args s = true) (hr : rest_1_c.before args s = true) : ∃ (b : Addr) (xs : List Int32), lw_P b xs args s := by
  have hs := flat_of_before _ h
  have hq := flat_of_before _ hr
  have hc : (Cond.count 1).before args s = true := hs _ (by decide +kernel)
  have harr : (Cond.arrayOf (.arg 0) .int).before args s = true := hs _ (by decide +kernel)
  have hle : (Cond.le (.length (.arg 0)) (.int 3000)).before args s = true := hs _ (by decide +kernel)
  have hlen : (Cond.isInt (.length (.arg 0))).before args s = true := hq _ (by decide +kernel)
  have hall : (Cond.all (.arg 0) (.isInt (.elem (.arg 0) (.index 0)))).before args s = true := hq _ (by decide +kernel)
  obtain ⟨b, xs, hb, hx⟩ := State.ints_of_pre rfl harr hlen hall
  have hsm : xs.length < 2 ^ 31 := hx.choose_spec.2.2.2
  have hev : (Term.length (.arg 0)).eval args s none [] s = some (.int xs.length.toInt32) := hx.length_eval hb
  have hv := Cond.le_ints hev (show (Term.int 3000).eval args s none [] s = some (.int 3000) from rfl)
  have hd : xs.length.toInt32 ≤ 3000 := by
    simpa [Cond.before, Cond.holds, hv] using hle
  have hN : xs.length ≤ 3000 := (Int32.ofNat_le_ofNat hsm (by decide)).mp (show Int32.ofNat xs.length ≤ Int32.ofNat 3000 from hd)
  exact ⟨b, xs, Cond.one_arg hc (show args[0]? = some (.ref b) from hb), hx, hN, h⟩
theorem lw_comes (l : Launch) : Comes l x (Jvm.Cond.code x code maxLocals ret :: tables_1) room_1 (fun tb e args s => Calls_1 tb e args s ∧ rest_1 tb e args s ∧ Pre_1 tb e args s)
    (fun _ _ args s o t => lw_Q args s o t) := by
  intro p e ha hc hk s m args below hf hfit hheap happ hpre
  obtain ⟨b, xs, hP⟩ := lw_pre_spec hpre.2.2 hpre.2.1
  obtain ⟨k, o, h1, h2, h3, hQ⟩ := lw_walk l b xs p e ha hc hk s m args below hf ((Spec.applies_iff_loose hf).mp happ).1 hP trivial
  exact ⟨k, o, h1, h2, h3, hQ⟩
theorem lw_frame {s t : State} {o : Outcome} {args : Array Value} (h : Framed s o t [] 1200000 5502250) :
    Framed s o t (fieldLocs frame_1_writes args s ++ arrayLocs frame_1_arrays args s ++ staticLocs frame_1_statics s) 1200000 5502250 := h
theorem lw_limb (L : Cond) (hL : ∀ (args : Array Value) (s t : State), L.after args s (.returned (some (.int 1))) t = true) :
    ArmFor flags0 classFile x code maxLocals ret World_1 tables_1 room_1 Calls_1 rest_1 Pre_1
      (fun tb e a s o t => postC L tb e a s o t ∧ Framed s o t (fieldLocs frame_1_writes a s ++ arrayLocs frame_1_arrays a s ++ staticLocs frame_1_statics s) 1200000 5502250) := by
  intro l _ _ _ p e ha hc hk s m args below hf hfit hheap happ hpre
  obtain ⟨k, o, h1, h2, h3, rfl, hF⟩ := lw_comes l p e ha hc hk s m args below hf hfit hheap happ hpre
  exact ⟨k, _, h1, h2, h3, hL args s _, lw_frame hF⟩
theorem i_vc : Claimed_1_1 ∧ Claimed_1_2 := ⟨lw_limb limb_1_1 (fun args s t => by simp [limb_1_1, Cond.after, Cond.holds, Cond.value]), lw_limb limb_1_2 (fun args s t => Cond.after_iff.mpr (by
  first | (rw [show limb_1_2 = Cond.eq .result (.int 1) from rfl, Cond.eq_ints (x := 1) (y := 1) rfl rfl]; simp; done) | (simp [limb_1_2, Cond.value, Term.eval]; done)))⟩
end
